section
/-! pure rows to paste: stores, nI and lN arithmetic, masks, shifts, narrowing, branches by naturals (pk_le, pk_lt, pk_eq), loops (lp1 .. lp16: the measure of the state; rp1 ..: recursion), negatives. Take what you need -/
theorem pk_us {f : Nat → Int32} {k : Nat} {x : Int32} : upd f k x k = x := if_pos rfl
theorem pk_un {f : Nat → Int32} {k j : Nat} {x : Int32} (h : j ≠ k) : upd f k x j = f j := if_neg h
theorem pk_uLs {f : Nat → Int64} {k : Nat} {x : Int64} : vp_updL f k x k = x := if_pos rfl
theorem pk_uLn {f : Nat → Int64} {k j : Nat} {x : Int64} (h : j ≠ k) : vp_updL f k x j = f j := if_neg h
theorem pk_sub {a b : Nat} (h : b ≤ a) : nI a - nI b = nI (a - b) := by
  obtain ⟨c, rfl⟩ : ∃ c, a = c + b := ⟨a - b, by omega⟩
  rw [← nI_add, Int32.add_sub_cancel, Nat.add_sub_cancel]
theorem pk_m1 (n : Nat) : nI (n + 1) + (-1) = nI n := by
  rw [← nI_1, Int32.add_assoc, show (1 : Int32) + (-1) = 0 from rfl, Int32.add_zero]
theorem pk_mul (a b : Nat) : nI a * nI b = nI (a * b) := (Int32.ofNat_mul a b).symm
theorem pk_div {a d : Nat} (ha : a < 2 ^ 31) (h0 : 0 < d) (hd : d < 2 ^ 31) : nI a / nI d = nI (a / d) := by
  apply Int32.toInt_inj.mp
  rw [lg_idiv_nonneg (by rw [nI_toInt ha]; omega) (by rw [nI_toInt hd]; omega), nI_toInt ha, nI_toInt hd, nI_toInt (Nat.lt_of_le_of_lt (Nat.div_le_self a d) ha)]
  first | rfl | exact (Int.natCast_ediv _ _).symm
theorem pk_rem {a d : Nat} (ha : a < 2 ^ 31) (h0 : 0 < d) (hd : d < 2 ^ 31) : nI a - nI a / nI d * nI d = nI (a % d) := by
  rw [pk_div ha h0 hd, pk_mul, pk_sub (Nat.div_mul_le_self a d)]
  exact congrArg nI (by have := Nat.div_add_mod' a d; omega)
theorem pk_sub_toInt {a b : Nat} (ha : a < 2 ^ 30) (hb : b < 2 ^ 30) : (nI a - nI b).toInt = (a : Int) - b := by
  rw [Int32.toInt_sub, nI_toInt (by omega), nI_toInt (by omega)]
  exact Int.bmod_eq_of_le (by omega) (by omega)
theorem pk_sneg {a b : Nat} (hb : b < 2 ^ 30) (h : a < b) : nI a - nI b < 0 := by
  rw [Int32.lt_iff_toInt_lt, pk_sub_toInt (by omega) hb, show (0 : Int32).toInt = 0 from by decide]
  omega
theorem pk_ix (x : Int32) {n : Nat} (hn : n < 2 ^ 31) : x < 0 ∨ nI n ≤ x ∨ ∃ j : Nat, j < n ∧ x = nI j := by
  by_cases h : x < 0
  · exact Or.inl h
  · obtain ⟨j, hj, rfl⟩ := nI_of h
    by_cases h2 : j < n
    · exact Or.inr (Or.inr ⟨j, h2, rfl⟩)
    · exact Or.inr (Or.inl (nI_le (by omega) hj))
theorem pk_le {x y : Int32} {A B : Prop} (a b : Nat) (f : a ≤ b → A) (g : b < a → B) (hx : x = nI a := by rfl) (hy : y = nI b := by rfl) (ha : a < 2 ^ 31 := by omega) (hb : b < 2 ^ 31 := by omega) : (x ≤ y → A) ∧ (¬ x ≤ y → B) := by
  subst hx hy
  rw [nI_leI ha hb]
  exact ⟨f, fun z => g (by omega)⟩
theorem pk_lt {x y : Int32} {A B : Prop} (a b : Nat) (f : a < b → A) (g : b ≤ a → B) (hx : x = nI a := by rfl) (hy : y = nI b := by rfl) (ha : a < 2 ^ 31 := by omega) (hb : b < 2 ^ 31 := by omega) : (x < y → A) ∧ (¬ x < y → B) := by
  subst hx hy
  rw [nI_ltI ha hb]
  exact ⟨f, fun z => g (by omega)⟩
theorem pk_eq {x y : Int32} {A B : Prop} (a b : Nat) (f : a = b → A) (g : a ≠ b → B) (hx : x = nI a := by rfl) (hy : y = nI b := by rfl) (ha : a < 2 ^ 31 := by omega) (hb : b < 2 ^ 31 := by omega) : (x = y → A) ∧ (¬ x = y → B) := by
  subst hx hy
  rw [nI_eq ha hb]
  exact ⟨f, g⟩
theorem pk_in {x : Int32} (n N : Nat) (h : n < N) (hx : x = nI n := by rfl) (hN : N < 2 ^ 31 := by omega) : vp_in x N := by
  subst hx
  exact vp_in_nI h hN
theorem pk_cl {x : Int32} (n : Nat) (hx : x = nI n := by rfl) (h : n < 2 ^ 31 := by omega) : x.toNatClampNeg = n := by
  subst hx
  exact nI_clamp h
theorem pk_tn {n : Nat} (h : n < 2 ^ 32) : (nI n).toBitVec.toNat = n := Nat.mod_eq_of_lt h
theorem pk_and (x : Int32) {m : Int32} (k : Nat) (hm : m.toBitVec.toNat = 2 ^ k - 1) : x &&& m = nI (x.toBitVec.toNat % 2 ^ k) := by
  apply Int32.toBitVec_inj.mp
  apply BitVec.eq_of_toNat_eq
  rw [Int32.toBitVec_and, BitVec.toNat_and, hm, Nat.and_two_pow_sub_one_eq_mod]
  show _ = (BitVec.ofNat 32 _).toNat
  rw [BitVec.toNat_ofNat]
  exact (Nat.mod_eq_of_lt (Nat.lt_of_le_of_lt (Nat.mod_le _ _) x.toBitVec.isLt)).symm
theorem pk_andN {n : Nat} (h : n < 2 ^ 32) {m : Int32} (k : Nat) (hm : m.toBitVec.toNat = 2 ^ k - 1) : nI n &&& m = nI (n % 2 ^ k) := by
  rw [pk_and _ k hm, pk_tn h]
theorem pk_andE (x : Int32) {m : Int32} (k : Nat) (hm : m.toBitVec.toNat = 2 ^ k - 1) : ∃ j : Nat, j < 2 ^ k ∧ x &&& m = nI j := ⟨_, Nat.mod_lt _ (Nat.two_pow_pos k), pk_and x k hm⟩
theorem pk_andIn (x : Int32) {m : Int32} (k : Nat) (hm : m.toBitVec.toNat = 2 ^ k - 1) (hk : k ≤ 30) : vp_in (x &&& m) (2 ^ k) := by
  obtain ⟨j, hj, e⟩ := pk_andE x k hm
  rw [e]
  exact vp_in_nI hj (Nat.lt_of_le_of_lt (Nat.pow_le_pow_right (by decide) hk) (by decide))
theorem pk_shl (a s : Int32) (k : Nat) (hs : (s.toBitVec.smod 32).toNat = k) : (a <<< s).toBitVec.toNat = a.toBitVec.toNat * 2 ^ k % 2 ^ 32 := by
  show (a.toBitVec <<< (s.toBitVec.smod 32).toNat).toNat = _
  rw [hs, BitVec.toNat_shiftLeft, Nat.shiftLeft_eq]
theorem pk_shlN {n : Nat} (s : Int32) (k : Nat) (hs : (s.toBitVec.smod 32).toNat = k) (h : n * 2 ^ k < 2 ^ 32) : nI n <<< s = nI (n * 2 ^ k) := by
  apply Int32.toBitVec_inj.mp
  apply BitVec.eq_of_toNat_eq
  have hn : n < 2 ^ 32 := Nat.lt_of_le_of_lt (Nat.le_mul_of_pos_right n (Nat.two_pow_pos k)) h
  rw [pk_shl _ _ k hs, pk_tn hn, pk_tn h, Nat.mod_eq_of_lt h]
theorem pk_shr (a s : Int32) (k : Nat) (hs : (s.toBitVec.smod 32).toNat = k) : (a >>> s).toInt = a.toInt >>> k := by
  show (a.toBitVec.sshiftRight (s.toBitVec.smod 32).toNat).toInt = _
  rw [hs, BitVec.toInt_sshiftRight]
  rfl
theorem pk_shrN {n : Nat} (h : n < 2 ^ 31) (s : Int32) (k : Nat) (hs : (s.toBitVec.smod 32).toNat = k) : nI n >>> s = nI (n / 2 ^ k) := by
  apply Int32.toInt_inj.mp
  have h2 : n / 2 ^ k ≤ n := Nat.div_le_self _ _
  rw [pk_shr _ _ k hs, nI_toInt h, nI_toInt (by omega), Int.shiftRight_eq_div_pow]
  rfl
theorem pk_ushr (x s : Int32) (k : Nat) (hs : ((s.toUInt32 &&& Int32.toUInt32 31).toBitVec % 32).toNat = k) : (x.toUInt32 >>> (s.toUInt32 &&& Int32.toUInt32 31)).toInt32.toBitVec.toNat = x.toBitVec.toNat / 2 ^ k := by
  have e : (x.toUInt32 >>> (s.toUInt32 &&& Int32.toUInt32 31)).toInt32.toBitVec = x.toBitVec >>> k := by
    rw [← hs]
    exact UInt32.toBitVec_shiftRight _ _
  rw [e, BitVec.toNat_ushiftRight, Nat.shiftRight_eq_div_pow]
theorem pk_ushrN {n : Nat} (hn : n < 2 ^ 32) (s : Int32) (k : Nat) (hs : ((s.toUInt32 &&& Int32.toUInt32 31).toBitVec % 32).toNat = k) : ((nI n).toUInt32 >>> (s.toUInt32 &&& Int32.toUInt32 31)).toInt32 = nI (n / 2 ^ k) := by
  apply Int32.toBitVec_inj.mp
  apply BitVec.eq_of_toNat_eq
  rw [pk_ushr _ s k hs, pk_tn hn, pk_tn (Nat.lt_of_le_of_lt (Nat.div_le_self _ _) hn)]
theorem pk_nb (z : Int32) : narrow .byte (.int z.toInt8.toInt32) = .int z.toInt8.toInt32 := congrArg Value.int (by simp)
theorem pk_ns (z : Int32) : narrow .short (.int z.toInt16.toInt32) = .int z.toInt16.toInt32 := congrArg Value.int (by simp)
theorem pk_fb (r : Int32) : fits .byte (.int r.toInt8.toInt32) = true := by
  have ⟨a, b⟩ := lg_i2b_range r
  have h1 : (-128 : Int32).toInt = -128 := by decide
  have h2 : (127 : Int32).toInt = 127 := by decide
  simp only [fits, Bool.and_eq_true, decide_eq_true_eq, Int32.le_iff_toInt_le, h1, h2]
  omega
theorem pk_fs (r : Int32) : fits .short (.int r.toInt16.toInt32) = true := by
  have ⟨a, b⟩ := lg_i2s_range r
  have h1 : (-32768 : Int32).toInt = -32768 := by decide
  have h2 : (32767 : Int32).toInt = 32767 := by decide
  simp only [fits, Bool.and_eq_true, decide_eq_true_eq, Int32.le_iff_toInt_le, h1, h2]
  omega
theorem pk_charN {q : Nat} (hq : q < 65536) : narrow .char (.int (nI q)) = .int (nI q) ∧ fits .char (.int (nI q)) = true := by
  constructor
  · have e : (nI q).toUInt32.toUInt16.toUInt32.toInt32 = nI q := by
      apply Int32.toBitVec_inj.mp
      apply BitVec.eq_of_toNat_eq
      show (nI q).toUInt32.toUInt16.toUInt32.toNat = q % 2 ^ 32
      rw [UInt16.toNat_toUInt32, UInt32.toNat_toUInt16, show (nI q).toUInt32.toNat = q % 2 ^ 32 from rfl]
      omega
    exact congrArg Value.int e
  · have a : (0 : Int32) ≤ nI q := nI_pos' (by omega)
    have b : nI q ≤ 65535 := nI_le (b := 65535) (by omega) (by decide)
    show (decide ((0 : Int32) ≤ nI q) && decide (nI q ≤ 65535)) = true
    rw [decide_eq_true a, decide_eq_true b]
    rfl
theorem pk_char (x : Int32) : (x.toUInt32 % 65536).toInt32 = nI (x.toBitVec.toNat % 65536) := by
  apply Int32.toBitVec_inj.mp
  apply BitVec.eq_of_toNat_eq
  rw [pk_tn (by omega)]
  show (x.toUInt32 % 65536).toNat = _
  rw [UInt32.toNat_mod]
  rfl
theorem pk_nc (x : Int32) : narrow .char (.int (x.toUInt32 % 65536).toInt32) = .int (x.toUInt32 % 65536).toInt32 := by
  rw [pk_char]
  exact (pk_charN (Nat.mod_lt _ (by decide))).1
theorem pk_fc (x : Int32) : fits .char (.int (x.toUInt32 % 65536).toInt32) = true := by
  rw [pk_char]
  exact (pk_charN (Nat.mod_lt _ (by decide))).2
theorem pk_vb (z : Int32) : vp_nar .byte z.toInt8.toInt32 = z.toInt8.toInt32 := by rw [vp_nar_byte]; simp
theorem pk_vs (z : Int32) : vp_nar .short z.toInt16.toInt32 = z.toInt16.toInt32 := by rw [vp_nar_short]; simp
theorem pk_vc (z : Int32) : vp_nar .char (z.toUInt32 % 65536).toInt32 = (z.toUInt32 % 65536).toInt32 := Value.int.inj (pk_nc z)
theorem pk_lT {n : Nat} (h : n < 2 ^ 63) : (lN n).toInt = (n : Int) := lg_ofNat_toInt h
theorem pk_lLT {a b : Nat} (ha : a < 2 ^ 63) (hb : b < 2 ^ 63) : lN a < lN b ↔ a < b := by
  rw [Int64.lt_iff_toInt_lt, pk_lT ha, pk_lT hb]; omega
theorem pk_lLE {a b : Nat} (ha : a < 2 ^ 63) (hb : b < 2 ^ 63) : lN a ≤ lN b ↔ a ≤ b := by
  rw [Int64.le_iff_toInt_le, pk_lT ha, pk_lT hb]; omega
theorem pk_lEQ {a b : Nat} (ha : a < 2 ^ 63) (hb : b < 2 ^ 63) : lN a = lN b ↔ a = b := by
  rw [← Int64.toInt_inj, pk_lT ha, pk_lT hb]; omega
theorem pk_lOf {x : Int64} (h : ¬ x < 0) : ∃ k : Nat, k < 2 ^ 63 ∧ x = lN k := by
  rw [Int64.lt_iff_toInt_lt] at h
  have h0 : (0 : Int64).toInt = 0 := by decide
  have hx := Int64.toInt_lt x
  refine ⟨x.toInt.toNat, by omega, Int64.toInt_inj.mp ?_⟩
  rw [pk_lT (by omega)]
  omega
theorem pk_lDiv {a b : Nat} (ha : a < 2 ^ 63) (h0 : 0 < b) (hb : b < 2 ^ 63) : lN a / lN b = lN (a / b) := by
  apply Int64.toInt_inj.mp
  rw [lg_ldiv_nonneg (by rw [pk_lT ha]; omega) (by rw [pk_lT hb]; omega), pk_lT ha, pk_lT hb, pk_lT (Nat.lt_of_le_of_lt (Nat.div_le_self a b) ha)]
  rfl
theorem pk_lRem {a b : Nat} (ha : a < 2 ^ 63) (h0 : 0 < b) (hb : b < 2 ^ 63) : lN a - lN a / lN b * lN b = lN (a % b) := by
  rw [pk_lDiv ha h0 hb, lN_mul, lN_sub (Nat.div_mul_le_self a b)]
  exact congrArg lN (by have := Nat.div_add_mod' a b; omega)
theorem pk_loop {σ : Type} (W : Nat → Nat → σ → Prop) (I : Nat → σ → Prop) (e i0 : Nat) (s : σ) (hi : i0 ≤ e) (h0 : I i0 s) (hx : ∀ n s, I e s → W (n + 1) e s)
    (hs : ∀ n i s, i < e → I i s → (∀ s', I (i + 1) s' → W n (i + 1) s') → W (n + 1) i s) : ∃ n, W n i0 s :=
  ⟨e + 1, loop_i W I e hx hs (e + 1) i0 s hi (by omega) h0⟩
theorem pk_loopD {σ : Type} (W : Nat → Nat → σ → Prop) (I : Nat → σ → Prop) (hx : ∀ n s, I 0 s → W (n + 1) 0 s)
    (hs : ∀ n i s, I (i + 1) s → (∀ s', I i s' → W n i s') → W (n + 1) (i + 1) s) : ∀ (e : Nat) (s : σ), I e s → W (e + 1) e s := by
  intro e
  induction e with
  | zero => exact fun s h => hx 0 s h
  | succ e ih => exact fun s h => hs (e + 1) e s h (fun s' h' => ih s' h')
theorem lp1 {A1 : Type} (W : Nat → A1 → Prop) (I : A1 → Prop) (μ : A1 → Nat) (hs : ∀ (n : Nat) (a1 : A1), I a1 → (∀ (b1 : A1), I b1 → μ b1 < μ a1 → W n b1) → W (n + 1) a1) (a1 : A1) (h : I a1) : ∃ n, W n a1 :=
  loop_m (σ := A1) (fun n s => W n s) (fun s => I s) (fun s => μ s) (fun n s hI hk => hs n s hI (fun b1 h9 hm => hk b1 h9 hm)) a1 h
theorem lp2 {A1 A2 : Type} (W : Nat → A1 → A2 → Prop) (I : A1 → A2 → Prop) (μ : A1 → A2 → Nat) (hs : ∀ (n : Nat) (a1 : A1) (a2 : A2), I a1 a2 → (∀ (b1 : A1) (b2 : A2), I b1 b2 → μ b1 b2 < μ a1 a2 → W n b1 b2) → W (n + 1) a1 a2) (a1 : A1) (a2 : A2) (h : I a1 a2) : ∃ n, W n a1 a2 :=
  loop_m (σ := A1 × A2) (fun n s => W n s.1 s.2) (fun s => I s.1 s.2) (fun s => μ s.1 s.2) (fun n s hI hk => hs n s.1 s.2 hI (fun b1 b2 h9 hm => hk (b1, b2) h9 hm)) (a1, a2) h
theorem lp3 {A1 A2 A3 : Type} (W : Nat → A1 → A2 → A3 → Prop) (I : A1 → A2 → A3 → Prop) (μ : A1 → A2 → A3 → Nat) (hs : ∀ (n : Nat) (a1 : A1) (a2 : A2) (a3 : A3), I a1 a2 a3 → (∀ (b1 : A1) (b2 : A2) (b3 : A3), I b1 b2 b3 → μ b1 b2 b3 < μ a1 a2 a3 → W n b1 b2 b3) → W (n + 1) a1 a2 a3) (a1 : A1) (a2 : A2) (a3 : A3) (h : I a1 a2 a3) : ∃ n, W n a1 a2 a3 :=
  loop_m (σ := A1 × A2 × A3) (fun n s => W n s.1 s.2.1 s.2.2) (fun s => I s.1 s.2.1 s.2.2) (fun s => μ s.1 s.2.1 s.2.2) (fun n s hI hk => hs n s.1 s.2.1 s.2.2 hI (fun b1 b2 b3 h9 hm => hk (b1, b2, b3) h9 hm)) (a1, a2, a3) h
theorem lp4 {A1 A2 A3 A4 : Type} (W : Nat → A1 → A2 → A3 → A4 → Prop) (I : A1 → A2 → A3 → A4 → Prop) (μ : A1 → A2 → A3 → A4 → Nat) (hs : ∀ (n : Nat) (a1 : A1) (a2 : A2) (a3 : A3) (a4 : A4), I a1 a2 a3 a4 → (∀ (b1 : A1) (b2 : A2) (b3 : A3) (b4 : A4), I b1 b2 b3 b4 → μ b1 b2 b3 b4 < μ a1 a2 a3 a4 → W n b1 b2 b3 b4) → W (n + 1) a1 a2 a3 a4) (a1 : A1) (a2 : A2) (a3 : A3) (a4 : A4) (h : I a1 a2 a3 a4) : ∃ n, W n a1 a2 a3 a4 :=
  loop_m (σ := A1 × A2 × A3 × A4) (fun n s => W n s.1 s.2.1 s.2.2.1 s.2.2.2) (fun s => I s.1 s.2.1 s.2.2.1 s.2.2.2) (fun s => μ s.1 s.2.1 s.2.2.1 s.2.2.2) (fun n s hI hk => hs n s.1 s.2.1 s.2.2.1 s.2.2.2 hI (fun b1 b2 b3 b4 h9 hm => hk (b1, b2, b3, b4) h9 hm)) (a1, a2, a3, a4) h
theorem lp5 {A1 A2 A3 A4 A5 : Type} (W : Nat → A1 → A2 → A3 → A4 → A5 → Prop) (I : A1 → A2 → A3 → A4 → A5 → Prop) (μ : A1 → A2 → A3 → A4 → A5 → Nat) (hs : ∀ (n : Nat) (a1 : A1) (a2 : A2) (a3 : A3) (a4 : A4) (a5 : A5), I a1 a2 a3 a4 a5 → (∀ (b1 : A1) (b2 : A2) (b3 : A3) (b4 : A4) (b5 : A5), I b1 b2 b3 b4 b5 → μ b1 b2 b3 b4 b5 < μ a1 a2 a3 a4 a5 → W n b1 b2 b3 b4 b5) → W (n + 1) a1 a2 a3 a4 a5) (a1 : A1) (a2 : A2) (a3 : A3) (a4 : A4) (a5 : A5) (h : I a1 a2 a3 a4 a5) : ∃ n, W n a1 a2 a3 a4 a5 :=
  loop_m (σ := A1 × A2 × A3 × A4 × A5) (fun n s => W n s.1 s.2.1 s.2.2.1 s.2.2.2.1 s.2.2.2.2) (fun s => I s.1 s.2.1 s.2.2.1 s.2.2.2.1 s.2.2.2.2) (fun s => μ s.1 s.2.1 s.2.2.1 s.2.2.2.1 s.2.2.2.2) (fun n s hI hk => hs n s.1 s.2.1 s.2.2.1 s.2.2.2.1 s.2.2.2.2 hI (fun b1 b2 b3 b4 b5 h9 hm => hk (b1, b2, b3, b4, b5) h9 hm)) (a1, a2, a3, a4, a5) h
theorem lp6 {A1 A2 A3 A4 A5 A6 : Type} (W : Nat → A1 → A2 → A3 → A4 → A5 → A6 → Prop) (I : A1 → A2 → A3 → A4 → A5 → A6 → Prop) (μ : A1 → A2 → A3 → A4 → A5 → A6 → Nat) (hs : ∀ (n : Nat) (a1 : A1) (a2 : A2) (a3 : A3) (a4 : A4) (a5 : A5) (a6 : A6), I a1 a2 a3 a4 a5 a6 → (∀ (b1 : A1) (b2 : A2) (b3 : A3) (b4 : A4) (b5 : A5) (b6 : A6), I b1 b2 b3 b4 b5 b6 → μ b1 b2 b3 b4 b5 b6 < μ a1 a2 a3 a4 a5 a6 → W n b1 b2 b3 b4 b5 b6) → W (n + 1) a1 a2 a3 a4 a5 a6) (a1 : A1) (a2 : A2) (a3 : A3) (a4 : A4) (a5 : A5) (a6 : A6) (h : I a1 a2 a3 a4 a5 a6) : ∃ n, W n a1 a2 a3 a4 a5 a6 :=
  loop_m (σ := A1 × A2 × A3 × A4 × A5 × A6) (fun n s => W n s.1 s.2.1 s.2.2.1 s.2.2.2.1 s.2.2.2.2.1 s.2.2.2.2.2) (fun s => I s.1 s.2.1 s.2.2.1 s.2.2.2.1 s.2.2.2.2.1 s.2.2.2.2.2) (fun s => μ s.1 s.2.1 s.2.2.1 s.2.2.2.1 s.2.2.2.2.1 s.2.2.2.2.2) (fun n s hI hk => hs n s.1 s.2.1 s.2.2.1 s.2.2.2.1 s.2.2.2.2.1 s.2.2.2.2.2 hI (fun b1 b2 b3 b4 b5 b6 h9 hm => hk (b1, b2, b3, b4, b5, b6) h9 hm)) (a1, a2, a3, a4, a5, a6) h
theorem lp7 {A1 A2 A3 A4 A5 A6 A7 : Type} (W : Nat → A1 → A2 → A3 → A4 → A5 → A6 → A7 → Prop) (I : A1 → A2 → A3 → A4 → A5 → A6 → A7 → Prop) (μ : A1 → A2 → A3 → A4 → A5 → A6 → A7 → Nat) (hs : ∀ (n : Nat) (a1 : A1) (a2 : A2) (a3 : A3) (a4 : A4) (a5 : A5) (a6 : A6) (a7 : A7), I a1 a2 a3 a4 a5 a6 a7 → (∀ (b1 : A1) (b2 : A2) (b3 : A3) (b4 : A4) (b5 : A5) (b6 : A6) (b7 : A7), I b1 b2 b3 b4 b5 b6 b7 → μ b1 b2 b3 b4 b5 b6 b7 < μ a1 a2 a3 a4 a5 a6 a7 → W n b1 b2 b3 b4 b5 b6 b7) → W (n + 1) a1 a2 a3 a4 a5 a6 a7) (a1 : A1) (a2 : A2) (a3 : A3) (a4 : A4) (a5 : A5) (a6 : A6) (a7 : A7) (h : I a1 a2 a3 a4 a5 a6 a7) : ∃ n, W n a1 a2 a3 a4 a5 a6 a7 :=
  loop_m (σ := A1 × A2 × A3 × A4 × A5 × A6 × A7) (fun n s => W n s.1 s.2.1 s.2.2.1 s.2.2.2.1 s.2.2.2.2.1 s.2.2.2.2.2.1 s.2.2.2.2.2.2) (fun s => I s.1 s.2.1 s.2.2.1 s.2.2.2.1 s.2.2.2.2.1 s.2.2.2.2.2.1 s.2.2.2.2.2.2) (fun s => μ s.1 s.2.1 s.2.2.1 s.2.2.2.1 s.2.2.2.2.1 s.2.2.2.2.2.1 s.2.2.2.2.2.2) (fun n s hI hk => hs n s.1 s.2.1 s.2.2.1 s.2.2.2.1 s.2.2.2.2.1 s.2.2.2.2.2.1 s.2.2.2.2.2.2 hI (fun b1 b2 b3 b4 b5 b6 b7 h9 hm => hk (b1, b2, b3, b4, b5, b6, b7) h9 hm)) (a1, a2, a3, a4, a5, a6, a7) h
theorem lp8 {A1 A2 A3 A4 A5 A6 A7 A8 : Type} (W : Nat → A1 → A2 → A3 → A4 → A5 → A6 → A7 → A8 → Prop) (I : A1 → A2 → A3 → A4 → A5 → A6 → A7 → A8 → Prop) (μ : A1 → A2 → A3 → A4 → A5 → A6 → A7 → A8 → Nat) (hs : ∀ (n : Nat) (a1 : A1) (a2 : A2) (a3 : A3) (a4 : A4) (a5 : A5) (a6 : A6) (a7 : A7) (a8 : A8), I a1 a2 a3 a4 a5 a6 a7 a8 → (∀ (b1 : A1) (b2 : A2) (b3 : A3) (b4 : A4) (b5 : A5) (b6 : A6) (b7 : A7) (b8 : A8), I b1 b2 b3 b4 b5 b6 b7 b8 → μ b1 b2 b3 b4 b5 b6 b7 b8 < μ a1 a2 a3 a4 a5 a6 a7 a8 → W n b1 b2 b3 b4 b5 b6 b7 b8) → W (n + 1) a1 a2 a3 a4 a5 a6 a7 a8) (a1 : A1) (a2 : A2) (a3 : A3) (a4 : A4) (a5 : A5) (a6 : A6) (a7 : A7) (a8 : A8) (h : I a1 a2 a3 a4 a5 a6 a7 a8) : ∃ n, W n a1 a2 a3 a4 a5 a6 a7 a8 :=
  loop_m (σ := A1 × A2 × A3 × A4 × A5 × A6 × A7 × A8) (fun n s => W n s.1 s.2.1 s.2.2.1 s.2.2.2.1 s.2.2.2.2.1 s.2.2.2.2.2.1 s.2.2.2.2.2.2.1 s.2.2.2.2.2.2.2) (fun s => I s.1 s.2.1 s.2.2.1 s.2.2.2.1 s.2.2.2.2.1 s.2.2.2.2.2.1 s.2.2.2.2.2.2.1 s.2.2.2.2.2.2.2) (fun s => μ s.1 s.2.1 s.2.2.1 s.2.2.2.1 s.2.2.2.2.1 s.2.2.2.2.2.1 s.2.2.2.2.2.2.1 s.2.2.2.2.2.2.2) (fun n s hI hk => hs n s.1 s.2.1 s.2.2.1 s.2.2.2.1 s.2.2.2.2.1 s.2.2.2.2.2.1 s.2.2.2.2.2.2.1 s.2.2.2.2.2.2.2 hI (fun b1 b2 b3 b4 b5 b6 b7 b8 h9 hm => hk (b1, b2, b3, b4, b5, b6, b7, b8) h9 hm)) (a1, a2, a3, a4, a5, a6, a7, a8) h
theorem lp9 {A1 A2 A3 A4 A5 A6 A7 A8 A9 : Type} (W : Nat → A1 → A2 → A3 → A4 → A5 → A6 → A7 → A8 → A9 → Prop) (I : A1 → A2 → A3 → A4 → A5 → A6 → A7 → A8 → A9 → Prop) (μ : A1 → A2 → A3 → A4 → A5 → A6 → A7 → A8 → A9 → Nat) (hs : ∀ (n : Nat) (a1 : A1) (a2 : A2) (a3 : A3) (a4 : A4) (a5 : A5) (a6 : A6) (a7 : A7) (a8 : A8) (a9 : A9), I a1 a2 a3 a4 a5 a6 a7 a8 a9 → (∀ (b1 : A1) (b2 : A2) (b3 : A3) (b4 : A4) (b5 : A5) (b6 : A6) (b7 : A7) (b8 : A8) (b9 : A9), I b1 b2 b3 b4 b5 b6 b7 b8 b9 → μ b1 b2 b3 b4 b5 b6 b7 b8 b9 < μ a1 a2 a3 a4 a5 a6 a7 a8 a9 → W n b1 b2 b3 b4 b5 b6 b7 b8 b9) → W (n + 1) a1 a2 a3 a4 a5 a6 a7 a8 a9) (a1 : A1) (a2 : A2) (a3 : A3) (a4 : A4) (a5 : A5) (a6 : A6) (a7 : A7) (a8 : A8) (a9 : A9) (h : I a1 a2 a3 a4 a5 a6 a7 a8 a9) : ∃ n, W n a1 a2 a3 a4 a5 a6 a7 a8 a9 :=
  loop_m (σ := A1 × A2 × A3 × A4 × A5 × A6 × A7 × A8 × A9) (fun n s => W n s.1 s.2.1 s.2.2.1 s.2.2.2.1 s.2.2.2.2.1 s.2.2.2.2.2.1 s.2.2.2.2.2.2.1 s.2.2.2.2.2.2.2.1 s.2.2.2.2.2.2.2.2) (fun s => I s.1 s.2.1 s.2.2.1 s.2.2.2.1 s.2.2.2.2.1 s.2.2.2.2.2.1 s.2.2.2.2.2.2.1 s.2.2.2.2.2.2.2.1 s.2.2.2.2.2.2.2.2) (fun s => μ s.1 s.2.1 s.2.2.1 s.2.2.2.1 s.2.2.2.2.1 s.2.2.2.2.2.1 s.2.2.2.2.2.2.1 s.2.2.2.2.2.2.2.1 s.2.2.2.2.2.2.2.2) (fun n s hI hk => hs n s.1 s.2.1 s.2.2.1 s.2.2.2.1 s.2.2.2.2.1 s.2.2.2.2.2.1 s.2.2.2.2.2.2.1 s.2.2.2.2.2.2.2.1 s.2.2.2.2.2.2.2.2 hI (fun b1 b2 b3 b4 b5 b6 b7 b8 b9 h9 hm => hk (b1, b2, b3, b4, b5, b6, b7, b8, b9) h9 hm)) (a1, a2, a3, a4, a5, a6, a7, a8, a9) h
theorem lp10 {A1 A2 A3 A4 A5 A6 A7 A8 A9 A10 : Type} (W : Nat → A1 → A2 → A3 → A4 → A5 → A6 → A7 → A8 → A9 → A10 → Prop) (I : A1 → A2 → A3 → A4 → A5 → A6 → A7 → A8 → A9 → A10 → Prop) (μ : A1 → A2 → A3 → A4 → A5 → A6 → A7 → A8 → A9 → A10 → Nat) (hs : ∀ (n : Nat) (a1 : A1) (a2 : A2) (a3 : A3) (a4 : A4) (a5 : A5) (a6 : A6) (a7 : A7) (a8 : A8) (a9 : A9) (a10 : A10), I a1 a2 a3 a4 a5 a6 a7 a8 a9 a10 → (∀ (b1 : A1) (b2 : A2) (b3 : A3) (b4 : A4) (b5 : A5) (b6 : A6) (b7 : A7) (b8 : A8) (b9 : A9) (b10 : A10), I b1 b2 b3 b4 b5 b6 b7 b8 b9 b10 → μ b1 b2 b3 b4 b5 b6 b7 b8 b9 b10 < μ a1 a2 a3 a4 a5 a6 a7 a8 a9 a10 → W n b1 b2 b3 b4 b5 b6 b7 b8 b9 b10) → W (n + 1) a1 a2 a3 a4 a5 a6 a7 a8 a9 a10) (a1 : A1) (a2 : A2) (a3 : A3) (a4 : A4) (a5 : A5) (a6 : A6) (a7 : A7) (a8 : A8) (a9 : A9) (a10 : A10) (h : I a1 a2 a3 a4 a5 a6 a7 a8 a9 a10) : ∃ n, W n a1 a2 a3 a4 a5 a6 a7 a8 a9 a10 :=
  loop_m (σ := A1 × A2 × A3 × A4 × A5 × A6 × A7 × A8 × A9 × A10) (fun n s => W n s.1 s.2.1 s.2.2.1 s.2.2.2.1 s.2.2.2.2.1 s.2.2.2.2.2.1 s.2.2.2.2.2.2.1 s.2.2.2.2.2.2.2.1 s.2.2.2.2.2.2.2.2.1 s.2.2.2.2.2.2.2.2.2) (fun s => I s.1 s.2.1 s.2.2.1 s.2.2.2.1 s.2.2.2.2.1 s.2.2.2.2.2.1 s.2.2.2.2.2.2.1 s.2.2.2.2.2.2.2.1 s.2.2.2.2.2.2.2.2.1 s.2.2.2.2.2.2.2.2.2) (fun s => μ s.1 s.2.1 s.2.2.1 s.2.2.2.1 s.2.2.2.2.1 s.2.2.2.2.2.1 s.2.2.2.2.2.2.1 s.2.2.2.2.2.2.2.1 s.2.2.2.2.2.2.2.2.1 s.2.2.2.2.2.2.2.2.2) (fun n s hI hk => hs n s.1 s.2.1 s.2.2.1 s.2.2.2.1 s.2.2.2.2.1 s.2.2.2.2.2.1 s.2.2.2.2.2.2.1 s.2.2.2.2.2.2.2.1 s.2.2.2.2.2.2.2.2.1 s.2.2.2.2.2.2.2.2.2 hI (fun b1 b2 b3 b4 b5 b6 b7 b8 b9 b10 h9 hm => hk (b1, b2, b3, b4, b5, b6, b7, b8, b9, b10) h9 hm)) (a1, a2, a3, a4, a5, a6, a7, a8, a9, a10) h
theorem lp11 {A1 A2 A3 A4 A5 A6 A7 A8 A9 A10 A11 : Type} (W : Nat → A1 → A2 → A3 → A4 → A5 → A6 → A7 → A8 → A9 → A10 → A11 → Prop) (I : A1 → A2 → A3 → A4 → A5 → A6 → A7 → A8 → A9 → A10 → A11 → Prop) (μ : A1 → A2 → A3 → A4 → A5 → A6 → A7 → A8 → A9 → A10 → A11 → Nat) (hs : ∀ (n : Nat) (a1 : A1) (a2 : A2) (a3 : A3) (a4 : A4) (a5 : A5) (a6 : A6) (a7 : A7) (a8 : A8) (a9 : A9) (a10 : A10) (a11 : A11), I a1 a2 a3 a4 a5 a6 a7 a8 a9 a10 a11 → (∀ (b1 : A1) (b2 : A2) (b3 : A3) (b4 : A4) (b5 : A5) (b6 : A6) (b7 : A7) (b8 : A8) (b9 : A9) (b10 : A10) (b11 : A11), I b1 b2 b3 b4 b5 b6 b7 b8 b9 b10 b11 → μ b1 b2 b3 b4 b5 b6 b7 b8 b9 b10 b11 < μ a1 a2 a3 a4 a5 a6 a7 a8 a9 a10 a11 → W n b1 b2 b3 b4 b5 b6 b7 b8 b9 b10 b11) → W (n + 1) a1 a2 a3 a4 a5 a6 a7 a8 a9 a10 a11) (a1 : A1) (a2 : A2) (a3 : A3) (a4 : A4) (a5 : A5) (a6 : A6) (a7 : A7) (a8 : A8) (a9 : A9) (a10 : A10) (a11 : A11) (h : I a1 a2 a3 a4 a5 a6 a7 a8 a9 a10 a11) : ∃ n, W n a1 a2 a3 a4 a5 a6 a7 a8 a9 a10 a11 :=
  loop_m (σ := A1 × A2 × A3 × A4 × A5 × A6 × A7 × A8 × A9 × A10 × A11) (fun n s => W n s.1 s.2.1 s.2.2.1 s.2.2.2.1 s.2.2.2.2.1 s.2.2.2.2.2.1 s.2.2.2.2.2.2.1 s.2.2.2.2.2.2.2.1 s.2.2.2.2.2.2.2.2.1 s.2.2.2.2.2.2.2.2.2.1 s.2.2.2.2.2.2.2.2.2.2) (fun s => I s.1 s.2.1 s.2.2.1 s.2.2.2.1 s.2.2.2.2.1 s.2.2.2.2.2.1 s.2.2.2.2.2.2.1 s.2.2.2.2.2.2.2.1 s.2.2.2.2.2.2.2.2.1 s.2.2.2.2.2.2.2.2.2.1 s.2.2.2.2.2.2.2.2.2.2) (fun s => μ s.1 s.2.1 s.2.2.1 s.2.2.2.1 s.2.2.2.2.1 s.2.2.2.2.2.1 s.2.2.2.2.2.2.1 s.2.2.2.2.2.2.2.1 s.2.2.2.2.2.2.2.2.1 s.2.2.2.2.2.2.2.2.2.1 s.2.2.2.2.2.2.2.2.2.2) (fun n s hI hk => hs n s.1 s.2.1 s.2.2.1 s.2.2.2.1 s.2.2.2.2.1 s.2.2.2.2.2.1 s.2.2.2.2.2.2.1 s.2.2.2.2.2.2.2.1 s.2.2.2.2.2.2.2.2.1 s.2.2.2.2.2.2.2.2.2.1 s.2.2.2.2.2.2.2.2.2.2 hI (fun b1 b2 b3 b4 b5 b6 b7 b8 b9 b10 b11 h9 hm => hk (b1, b2, b3, b4, b5, b6, b7, b8, b9, b10, b11) h9 hm)) (a1, a2, a3, a4, a5, a6, a7, a8, a9, a10, a11) h
theorem lp12 {A1 A2 A3 A4 A5 A6 A7 A8 A9 A10 A11 A12 : Type} (W : Nat → A1 → A2 → A3 → A4 → A5 → A6 → A7 → A8 → A9 → A10 → A11 → A12 → Prop) (I : A1 → A2 → A3 → A4 → A5 → A6 → A7 → A8 → A9 → A10 → A11 → A12 → Prop) (μ : A1 → A2 → A3 → A4 → A5 → A6 → A7 → A8 → A9 → A10 → A11 → A12 → Nat) (hs : ∀ (n : Nat) (a1 : A1) (a2 : A2) (a3 : A3) (a4 : A4) (a5 : A5) (a6 : A6) (a7 : A7) (a8 : A8) (a9 : A9) (a10 : A10) (a11 : A11) (a12 : A12), I a1 a2 a3 a4 a5 a6 a7 a8 a9 a10 a11 a12 → (∀ (b1 : A1) (b2 : A2) (b3 : A3) (b4 : A4) (b5 : A5) (b6 : A6) (b7 : A7) (b8 : A8) (b9 : A9) (b10 : A10) (b11 : A11) (b12 : A12), I b1 b2 b3 b4 b5 b6 b7 b8 b9 b10 b11 b12 → μ b1 b2 b3 b4 b5 b6 b7 b8 b9 b10 b11 b12 < μ a1 a2 a3 a4 a5 a6 a7 a8 a9 a10 a11 a12 → W n b1 b2 b3 b4 b5 b6 b7 b8 b9 b10 b11 b12) → W (n + 1) a1 a2 a3 a4 a5 a6 a7 a8 a9 a10 a11 a12) (a1 : A1) (a2 : A2) (a3 : A3) (a4 : A4) (a5 : A5) (a6 : A6) (a7 : A7) (a8 : A8) (a9 : A9) (a10 : A10) (a11 : A11) (a12 : A12) (h : I a1 a2 a3 a4 a5 a6 a7 a8 a9 a10 a11 a12) : ∃ n, W n a1 a2 a3 a4 a5 a6 a7 a8 a9 a10 a11 a12 :=
  loop_m (σ := A1 × A2 × A3 × A4 × A5 × A6 × A7 × A8 × A9 × A10 × A11 × A12) (fun n s => W n s.1 s.2.1 s.2.2.1 s.2.2.2.1 s.2.2.2.2.1 s.2.2.2.2.2.1 s.2.2.2.2.2.2.1 s.2.2.2.2.2.2.2.1 s.2.2.2.2.2.2.2.2.1 s.2.2.2.2.2.2.2.2.2.1 s.2.2.2.2.2.2.2.2.2.2.1 s.2.2.2.2.2.2.2.2.2.2.2) (fun s => I s.1 s.2.1 s.2.2.1 s.2.2.2.1 s.2.2.2.2.1 s.2.2.2.2.2.1 s.2.2.2.2.2.2.1 s.2.2.2.2.2.2.2.1 s.2.2.2.2.2.2.2.2.1 s.2.2.2.2.2.2.2.2.2.1 s.2.2.2.2.2.2.2.2.2.2.1 s.2.2.2.2.2.2.2.2.2.2.2) (fun s => μ s.1 s.2.1 s.2.2.1 s.2.2.2.1 s.2.2.2.2.1 s.2.2.2.2.2.1 s.2.2.2.2.2.2.1 s.2.2.2.2.2.2.2.1 s.2.2.2.2.2.2.2.2.1 s.2.2.2.2.2.2.2.2.2.1 s.2.2.2.2.2.2.2.2.2.2.1 s.2.2.2.2.2.2.2.2.2.2.2) (fun n s hI hk => hs n s.1 s.2.1 s.2.2.1 s.2.2.2.1 s.2.2.2.2.1 s.2.2.2.2.2.1 s.2.2.2.2.2.2.1 s.2.2.2.2.2.2.2.1 s.2.2.2.2.2.2.2.2.1 s.2.2.2.2.2.2.2.2.2.1 s.2.2.2.2.2.2.2.2.2.2.1 s.2.2.2.2.2.2.2.2.2.2.2 hI (fun b1 b2 b3 b4 b5 b6 b7 b8 b9 b10 b11 b12 h9 hm => hk (b1, b2, b3, b4, b5, b6, b7, b8, b9, b10, b11, b12) h9 hm)) (a1, a2, a3, a4, a5, a6, a7, a8, a9, a10, a11, a12) h
theorem lp13 {A1 A2 A3 A4 A5 A6 A7 A8 A9 A10 A11 A12 A13 : Type} (W : Nat → A1 → A2 → A3 → A4 → A5 → A6 → A7 → A8 → A9 → A10 → A11 → A12 → A13 → Prop) (I : A1 → A2 → A3 → A4 → A5 → A6 → A7 → A8 → A9 → A10 → A11 → A12 → A13 → Prop) (μ : A1 → A2 → A3 → A4 → A5 → A6 → A7 → A8 → A9 → A10 → A11 → A12 → A13 → Nat) (hs : ∀ (n : Nat) (a1 : A1) (a2 : A2) (a3 : A3) (a4 : A4) (a5 : A5) (a6 : A6) (a7 : A7) (a8 : A8) (a9 : A9) (a10 : A10) (a11 : A11) (a12 : A12) (a13 : A13), I a1 a2 a3 a4 a5 a6 a7 a8 a9 a10 a11 a12 a13 → (∀ (b1 : A1) (b2 : A2) (b3 : A3) (b4 : A4) (b5 : A5) (b6 : A6) (b7 : A7) (b8 : A8) (b9 : A9) (b10 : A10) (b11 : A11) (b12 : A12) (b13 : A13), I b1 b2 b3 b4 b5 b6 b7 b8 b9 b10 b11 b12 b13 → μ b1 b2 b3 b4 b5 b6 b7 b8 b9 b10 b11 b12 b13 < μ a1 a2 a3 a4 a5 a6 a7 a8 a9 a10 a11 a12 a13 → W n b1 b2 b3 b4 b5 b6 b7 b8 b9 b10 b11 b12 b13) → W (n + 1) a1 a2 a3 a4 a5 a6 a7 a8 a9 a10 a11 a12 a13) (a1 : A1) (a2 : A2) (a3 : A3) (a4 : A4) (a5 : A5) (a6 : A6) (a7 : A7) (a8 : A8) (a9 : A9) (a10 : A10) (a11 : A11) (a12 : A12) (a13 : A13) (h : I a1 a2 a3 a4 a5 a6 a7 a8 a9 a10 a11 a12 a13) : ∃ n, W n a1 a2 a3 a4 a5 a6 a7 a8 a9 a10 a11 a12 a13 :=
  loop_m (σ := A1 × A2 × A3 × A4 × A5 × A6 × A7 × A8 × A9 × A10 × A11 × A12 × A13) (fun n s => W n s.1 s.2.1 s.2.2.1 s.2.2.2.1 s.2.2.2.2.1 s.2.2.2.2.2.1 s.2.2.2.2.2.2.1 s.2.2.2.2.2.2.2.1 s.2.2.2.2.2.2.2.2.1 s.2.2.2.2.2.2.2.2.2.1 s.2.2.2.2.2.2.2.2.2.2.1 s.2.2.2.2.2.2.2.2.2.2.2.1 s.2.2.2.2.2.2.2.2.2.2.2.2) (fun s => I s.1 s.2.1 s.2.2.1 s.2.2.2.1 s.2.2.2.2.1 s.2.2.2.2.2.1 s.2.2.2.2.2.2.1 s.2.2.2.2.2.2.2.1 s.2.2.2.2.2.2.2.2.1 s.2.2.2.2.2.2.2.2.2.1 s.2.2.2.2.2.2.2.2.2.2.1 s.2.2.2.2.2.2.2.2.2.2.2.1 s.2.2.2.2.2.2.2.2.2.2.2.2) (fun s => μ s.1 s.2.1 s.2.2.1 s.2.2.2.1 s.2.2.2.2.1 s.2.2.2.2.2.1 s.2.2.2.2.2.2.1 s.2.2.2.2.2.2.2.1 s.2.2.2.2.2.2.2.2.1 s.2.2.2.2.2.2.2.2.2.1 s.2.2.2.2.2.2.2.2.2.2.1 s.2.2.2.2.2.2.2.2.2.2.2.1 s.2.2.2.2.2.2.2.2.2.2.2.2) (fun n s hI hk => hs n s.1 s.2.1 s.2.2.1 s.2.2.2.1 s.2.2.2.2.1 s.2.2.2.2.2.1 s.2.2.2.2.2.2.1 s.2.2.2.2.2.2.2.1 s.2.2.2.2.2.2.2.2.1 s.2.2.2.2.2.2.2.2.2.1 s.2.2.2.2.2.2.2.2.2.2.1 s.2.2.2.2.2.2.2.2.2.2.2.1 s.2.2.2.2.2.2.2.2.2.2.2.2 hI (fun b1 b2 b3 b4 b5 b6 b7 b8 b9 b10 b11 b12 b13 h9 hm => hk (b1, b2, b3, b4, b5, b6, b7, b8, b9, b10, b11, b12, b13) h9 hm)) (a1, a2, a3, a4, a5, a6, a7, a8, a9, a10, a11, a12, a13) h
theorem lp14 {A1 A2 A3 A4 A5 A6 A7 A8 A9 A10 A11 A12 A13 A14 : Type} (W : Nat → A1 → A2 → A3 → A4 → A5 → A6 → A7 → A8 → A9 → A10 → A11 → A12 → A13 → A14 → Prop) (I : A1 → A2 → A3 → A4 → A5 → A6 → A7 → A8 → A9 → A10 → A11 → A12 → A13 → A14 → Prop) (μ : A1 → A2 → A3 → A4 → A5 → A6 → A7 → A8 → A9 → A10 → A11 → A12 → A13 → A14 → Nat) (hs : ∀ (n : Nat) (a1 : A1) (a2 : A2) (a3 : A3) (a4 : A4) (a5 : A5) (a6 : A6) (a7 : A7) (a8 : A8) (a9 : A9) (a10 : A10) (a11 : A11) (a12 : A12) (a13 : A13) (a14 : A14), I a1 a2 a3 a4 a5 a6 a7 a8 a9 a10 a11 a12 a13 a14 → (∀ (b1 : A1) (b2 : A2) (b3 : A3) (b4 : A4) (b5 : A5) (b6 : A6) (b7 : A7) (b8 : A8) (b9 : A9) (b10 : A10) (b11 : A11) (b12 : A12) (b13 : A13) (b14 : A14), I b1 b2 b3 b4 b5 b6 b7 b8 b9 b10 b11 b12 b13 b14 → μ b1 b2 b3 b4 b5 b6 b7 b8 b9 b10 b11 b12 b13 b14 < μ a1 a2 a3 a4 a5 a6 a7 a8 a9 a10 a11 a12 a13 a14 → W n b1 b2 b3 b4 b5 b6 b7 b8 b9 b10 b11 b12 b13 b14) → W (n + 1) a1 a2 a3 a4 a5 a6 a7 a8 a9 a10 a11 a12 a13 a14) (a1 : A1) (a2 : A2) (a3 : A3) (a4 : A4) (a5 : A5) (a6 : A6) (a7 : A7) (a8 : A8) (a9 : A9) (a10 : A10) (a11 : A11) (a12 : A12) (a13 : A13) (a14 : A14) (h : I a1 a2 a3 a4 a5 a6 a7 a8 a9 a10 a11 a12 a13 a14) : ∃ n, W n a1 a2 a3 a4 a5 a6 a7 a8 a9 a10 a11 a12 a13 a14 :=
  loop_m (σ := A1 × A2 × A3 × A4 × A5 × A6 × A7 × A8 × A9 × A10 × A11 × A12 × A13 × A14) (fun n s => W n s.1 s.2.1 s.2.2.1 s.2.2.2.1 s.2.2.2.2.1 s.2.2.2.2.2.1 s.2.2.2.2.2.2.1 s.2.2.2.2.2.2.2.1 s.2.2.2.2.2.2.2.2.1 s.2.2.2.2.2.2.2.2.2.1 s.2.2.2.2.2.2.2.2.2.2.1 s.2.2.2.2.2.2.2.2.2.2.2.1 s.2.2.2.2.2.2.2.2.2.2.2.2.1 s.2.2.2.2.2.2.2.2.2.2.2.2.2) (fun s => I s.1 s.2.1 s.2.2.1 s.2.2.2.1 s.2.2.2.2.1 s.2.2.2.2.2.1 s.2.2.2.2.2.2.1 s.2.2.2.2.2.2.2.1 s.2.2.2.2.2.2.2.2.1 s.2.2.2.2.2.2.2.2.2.1 s.2.2.2.2.2.2.2.2.2.2.1 s.2.2.2.2.2.2.2.2.2.2.2.1 s.2.2.2.2.2.2.2.2.2.2.2.2.1 s.2.2.2.2.2.2.2.2.2.2.2.2.2) (fun s => μ s.1 s.2.1 s.2.2.1 s.2.2.2.1 s.2.2.2.2.1 s.2.2.2.2.2.1 s.2.2.2.2.2.2.1 s.2.2.2.2.2.2.2.1 s.2.2.2.2.2.2.2.2.1 s.2.2.2.2.2.2.2.2.2.1 s.2.2.2.2.2.2.2.2.2.2.1 s.2.2.2.2.2.2.2.2.2.2.2.1 s.2.2.2.2.2.2.2.2.2.2.2.2.1 s.2.2.2.2.2.2.2.2.2.2.2.2.2) (fun n s hI hk => hs n s.1 s.2.1 s.2.2.1 s.2.2.2.1 s.2.2.2.2.1 s.2.2.2.2.2.1 s.2.2.2.2.2.2.1 s.2.2.2.2.2.2.2.1 s.2.2.2.2.2.2.2.2.1 s.2.2.2.2.2.2.2.2.2.1 s.2.2.2.2.2.2.2.2.2.2.1 s.2.2.2.2.2.2.2.2.2.2.2.1 s.2.2.2.2.2.2.2.2.2.2.2.2.1 s.2.2.2.2.2.2.2.2.2.2.2.2.2 hI (fun b1 b2 b3 b4 b5 b6 b7 b8 b9 b10 b11 b12 b13 b14 h9 hm => hk (b1, b2, b3, b4, b5, b6, b7, b8, b9, b10, b11, b12, b13, b14) h9 hm)) (a1, a2, a3, a4, a5, a6, a7, a8, a9, a10, a11, a12, a13, a14) h
theorem lp15 {A1 A2 A3 A4 A5 A6 A7 A8 A9 A10 A11 A12 A13 A14 A15 : Type} (W : Nat → A1 → A2 → A3 → A4 → A5 → A6 → A7 → A8 → A9 → A10 → A11 → A12 → A13 → A14 → A15 → Prop) (I : A1 → A2 → A3 → A4 → A5 → A6 → A7 → A8 → A9 → A10 → A11 → A12 → A13 → A14 → A15 → Prop) (μ : A1 → A2 → A3 → A4 → A5 → A6 → A7 → A8 → A9 → A10 → A11 → A12 → A13 → A14 → A15 → Nat) (hs : ∀ (n : Nat) (a1 : A1) (a2 : A2) (a3 : A3) (a4 : A4) (a5 : A5) (a6 : A6) (a7 : A7) (a8 : A8) (a9 : A9) (a10 : A10) (a11 : A11) (a12 : A12) (a13 : A13) (a14 : A14) (a15 : A15), I a1 a2 a3 a4 a5 a6 a7 a8 a9 a10 a11 a12 a13 a14 a15 → (∀ (b1 : A1) (b2 : A2) (b3 : A3) (b4 : A4) (b5 : A5) (b6 : A6) (b7 : A7) (b8 : A8) (b9 : A9) (b10 : A10) (b11 : A11) (b12 : A12) (b13 : A13) (b14 : A14) (b15 : A15), I b1 b2 b3 b4 b5 b6 b7 b8 b9 b10 b11 b12 b13 b14 b15 → μ b1 b2 b3 b4 b5 b6 b7 b8 b9 b10 b11 b12 b13 b14 b15 < μ a1 a2 a3 a4 a5 a6 a7 a8 a9 a10 a11 a12 a13 a14 a15 → W n b1 b2 b3 b4 b5 b6 b7 b8 b9 b10 b11 b12 b13 b14 b15) → W (n + 1) a1 a2 a3 a4 a5 a6 a7 a8 a9 a10 a11 a12 a13 a14 a15) (a1 : A1) (a2 : A2) (a3 : A3) (a4 : A4) (a5 : A5) (a6 : A6) (a7 : A7) (a8 : A8) (a9 : A9) (a10 : A10) (a11 : A11) (a12 : A12) (a13 : A13) (a14 : A14) (a15 : A15) (h : I a1 a2 a3 a4 a5 a6 a7 a8 a9 a10 a11 a12 a13 a14 a15) : ∃ n, W n a1 a2 a3 a4 a5 a6 a7 a8 a9 a10 a11 a12 a13 a14 a15 :=
  loop_m (σ := A1 × A2 × A3 × A4 × A5 × A6 × A7 × A8 × A9 × A10 × A11 × A12 × A13 × A14 × A15) (fun n s => W n s.1 s.2.1 s.2.2.1 s.2.2.2.1 s.2.2.2.2.1 s.2.2.2.2.2.1 s.2.2.2.2.2.2.1 s.2.2.2.2.2.2.2.1 s.2.2.2.2.2.2.2.2.1 s.2.2.2.2.2.2.2.2.2.1 s.2.2.2.2.2.2.2.2.2.2.1 s.2.2.2.2.2.2.2.2.2.2.2.1 s.2.2.2.2.2.2.2.2.2.2.2.2.1 s.2.2.2.2.2.2.2.2.2.2.2.2.2.1 s.2.2.2.2.2.2.2.2.2.2.2.2.2.2) (fun s => I s.1 s.2.1 s.2.2.1 s.2.2.2.1 s.2.2.2.2.1 s.2.2.2.2.2.1 s.2.2.2.2.2.2.1 s.2.2.2.2.2.2.2.1 s.2.2.2.2.2.2.2.2.1 s.2.2.2.2.2.2.2.2.2.1 s.2.2.2.2.2.2.2.2.2.2.1 s.2.2.2.2.2.2.2.2.2.2.2.1 s.2.2.2.2.2.2.2.2.2.2.2.2.1 s.2.2.2.2.2.2.2.2.2.2.2.2.2.1 s.2.2.2.2.2.2.2.2.2.2.2.2.2.2) (fun s => μ s.1 s.2.1 s.2.2.1 s.2.2.2.1 s.2.2.2.2.1 s.2.2.2.2.2.1 s.2.2.2.2.2.2.1 s.2.2.2.2.2.2.2.1 s.2.2.2.2.2.2.2.2.1 s.2.2.2.2.2.2.2.2.2.1 s.2.2.2.2.2.2.2.2.2.2.1 s.2.2.2.2.2.2.2.2.2.2.2.1 s.2.2.2.2.2.2.2.2.2.2.2.2.1 s.2.2.2.2.2.2.2.2.2.2.2.2.2.1 s.2.2.2.2.2.2.2.2.2.2.2.2.2.2) (fun n s hI hk => hs n s.1 s.2.1 s.2.2.1 s.2.2.2.1 s.2.2.2.2.1 s.2.2.2.2.2.1 s.2.2.2.2.2.2.1 s.2.2.2.2.2.2.2.1 s.2.2.2.2.2.2.2.2.1 s.2.2.2.2.2.2.2.2.2.1 s.2.2.2.2.2.2.2.2.2.2.1 s.2.2.2.2.2.2.2.2.2.2.2.1 s.2.2.2.2.2.2.2.2.2.2.2.2.1 s.2.2.2.2.2.2.2.2.2.2.2.2.2.1 s.2.2.2.2.2.2.2.2.2.2.2.2.2.2 hI (fun b1 b2 b3 b4 b5 b6 b7 b8 b9 b10 b11 b12 b13 b14 b15 h9 hm => hk (b1, b2, b3, b4, b5, b6, b7, b8, b9, b10, b11, b12, b13, b14, b15) h9 hm)) (a1, a2, a3, a4, a5, a6, a7, a8, a9, a10, a11, a12, a13, a14, a15) h
theorem lp16 {A1 A2 A3 A4 A5 A6 A7 A8 A9 A10 A11 A12 A13 A14 A15 A16 : Type} (W : Nat → A1 → A2 → A3 → A4 → A5 → A6 → A7 → A8 → A9 → A10 → A11 → A12 → A13 → A14 → A15 → A16 → Prop) (I : A1 → A2 → A3 → A4 → A5 → A6 → A7 → A8 → A9 → A10 → A11 → A12 → A13 → A14 → A15 → A16 → Prop) (μ : A1 → A2 → A3 → A4 → A5 → A6 → A7 → A8 → A9 → A10 → A11 → A12 → A13 → A14 → A15 → A16 → Nat) (hs : ∀ (n : Nat) (a1 : A1) (a2 : A2) (a3 : A3) (a4 : A4) (a5 : A5) (a6 : A6) (a7 : A7) (a8 : A8) (a9 : A9) (a10 : A10) (a11 : A11) (a12 : A12) (a13 : A13) (a14 : A14) (a15 : A15) (a16 : A16), I a1 a2 a3 a4 a5 a6 a7 a8 a9 a10 a11 a12 a13 a14 a15 a16 → (∀ (b1 : A1) (b2 : A2) (b3 : A3) (b4 : A4) (b5 : A5) (b6 : A6) (b7 : A7) (b8 : A8) (b9 : A9) (b10 : A10) (b11 : A11) (b12 : A12) (b13 : A13) (b14 : A14) (b15 : A15) (b16 : A16), I b1 b2 b3 b4 b5 b6 b7 b8 b9 b10 b11 b12 b13 b14 b15 b16 → μ b1 b2 b3 b4 b5 b6 b7 b8 b9 b10 b11 b12 b13 b14 b15 b16 < μ a1 a2 a3 a4 a5 a6 a7 a8 a9 a10 a11 a12 a13 a14 a15 a16 → W n b1 b2 b3 b4 b5 b6 b7 b8 b9 b10 b11 b12 b13 b14 b15 b16) → W (n + 1) a1 a2 a3 a4 a5 a6 a7 a8 a9 a10 a11 a12 a13 a14 a15 a16) (a1 : A1) (a2 : A2) (a3 : A3) (a4 : A4) (a5 : A5) (a6 : A6) (a7 : A7) (a8 : A8) (a9 : A9) (a10 : A10) (a11 : A11) (a12 : A12) (a13 : A13) (a14 : A14) (a15 : A15) (a16 : A16) (h : I a1 a2 a3 a4 a5 a6 a7 a8 a9 a10 a11 a12 a13 a14 a15 a16) : ∃ n, W n a1 a2 a3 a4 a5 a6 a7 a8 a9 a10 a11 a12 a13 a14 a15 a16 :=
  loop_m (σ := A1 × A2 × A3 × A4 × A5 × A6 × A7 × A8 × A9 × A10 × A11 × A12 × A13 × A14 × A15 × A16) (fun n s => W n s.1 s.2.1 s.2.2.1 s.2.2.2.1 s.2.2.2.2.1 s.2.2.2.2.2.1 s.2.2.2.2.2.2.1 s.2.2.2.2.2.2.2.1 s.2.2.2.2.2.2.2.2.1 s.2.2.2.2.2.2.2.2.2.1 s.2.2.2.2.2.2.2.2.2.2.1 s.2.2.2.2.2.2.2.2.2.2.2.1 s.2.2.2.2.2.2.2.2.2.2.2.2.1 s.2.2.2.2.2.2.2.2.2.2.2.2.2.1 s.2.2.2.2.2.2.2.2.2.2.2.2.2.2.1 s.2.2.2.2.2.2.2.2.2.2.2.2.2.2.2) (fun s => I s.1 s.2.1 s.2.2.1 s.2.2.2.1 s.2.2.2.2.1 s.2.2.2.2.2.1 s.2.2.2.2.2.2.1 s.2.2.2.2.2.2.2.1 s.2.2.2.2.2.2.2.2.1 s.2.2.2.2.2.2.2.2.2.1 s.2.2.2.2.2.2.2.2.2.2.1 s.2.2.2.2.2.2.2.2.2.2.2.1 s.2.2.2.2.2.2.2.2.2.2.2.2.1 s.2.2.2.2.2.2.2.2.2.2.2.2.2.1 s.2.2.2.2.2.2.2.2.2.2.2.2.2.2.1 s.2.2.2.2.2.2.2.2.2.2.2.2.2.2.2) (fun s => μ s.1 s.2.1 s.2.2.1 s.2.2.2.1 s.2.2.2.2.1 s.2.2.2.2.2.1 s.2.2.2.2.2.2.1 s.2.2.2.2.2.2.2.1 s.2.2.2.2.2.2.2.2.1 s.2.2.2.2.2.2.2.2.2.1 s.2.2.2.2.2.2.2.2.2.2.1 s.2.2.2.2.2.2.2.2.2.2.2.1 s.2.2.2.2.2.2.2.2.2.2.2.2.1 s.2.2.2.2.2.2.2.2.2.2.2.2.2.1 s.2.2.2.2.2.2.2.2.2.2.2.2.2.2.1 s.2.2.2.2.2.2.2.2.2.2.2.2.2.2.2) (fun n s hI hk => hs n s.1 s.2.1 s.2.2.1 s.2.2.2.1 s.2.2.2.2.1 s.2.2.2.2.2.1 s.2.2.2.2.2.2.1 s.2.2.2.2.2.2.2.1 s.2.2.2.2.2.2.2.2.1 s.2.2.2.2.2.2.2.2.2.1 s.2.2.2.2.2.2.2.2.2.2.1 s.2.2.2.2.2.2.2.2.2.2.2.1 s.2.2.2.2.2.2.2.2.2.2.2.2.1 s.2.2.2.2.2.2.2.2.2.2.2.2.2.1 s.2.2.2.2.2.2.2.2.2.2.2.2.2.2.1 s.2.2.2.2.2.2.2.2.2.2.2.2.2.2.2 hI (fun b1 b2 b3 b4 b5 b6 b7 b8 b9 b10 b11 b12 b13 b14 b15 b16 h9 hm => hk (b1, b2, b3, b4, b5, b6, b7, b8, b9, b10, b11, b12, b13, b14, b15, b16) h9 hm)) (a1, a2, a3, a4, a5, a6, a7, a8, a9, a10, a11, a12, a13, a14, a15, a16) h
theorem pk_least (P : Nat → Prop) (h : ∃ k, P k) : ∃ k, P k ∧ ∀ j, j < k → ¬ P j := by
  obtain ⟨k, hk⟩ := h
  induction k using Nat.strongRecOn with
  | ind k ih =>
    by_cases e : ∃ j, j < k ∧ P j
    · obtain ⟨j, hj, pj⟩ := e
      exact ih j hj pj
    · exact ⟨k, hk, fun j hj pj => e ⟨j, hj, pj⟩⟩
theorem rp1 {ρ A1 : Type} (W : Nat → (ρ → Prop) → A1 → Prop) (ok : A1 → Prop) (μ : A1 → Nat) (val : A1 → ρ)
    (hs : ∀ (d : Nat) (post : ρ → Prop) (a1 : A1), ok a1 → post (val a1) → (∀ (post' : ρ → Prop) (b1 : A1), ok b1 → μ b1 < μ a1 → post' (val b1) → W d post' b1) → W (d + 1) post a1) :
    ∀ (d : Nat) (post : ρ → Prop) (a1 : A1), ok a1 → μ a1 < d → post (val a1) → W d post a1 := by
  intro d
  induction d with
  | zero => intro post a1 _ h; omega
  | succ d ih =>
    intro post a1 ho hm hp
    exact hs d post a1 ho hp (fun post' b1 ho' hm' hp' => ih post' b1 ho' (by omega) hp')
theorem rp2 {ρ A1 A2 : Type} (W : Nat → (ρ → Prop) → A1 → A2 → Prop) (ok : A1 → A2 → Prop) (μ : A1 → A2 → Nat) (val : A1 → A2 → ρ)
    (hs : ∀ (d : Nat) (post : ρ → Prop) (a1 : A1) (a2 : A2), ok a1 a2 → post (val a1 a2) → (∀ (post' : ρ → Prop) (b1 : A1) (b2 : A2), ok b1 b2 → μ b1 b2 < μ a1 a2 → post' (val b1 b2) → W d post' b1 b2) → W (d + 1) post a1 a2) :
    ∀ (d : Nat) (post : ρ → Prop) (a1 : A1) (a2 : A2), ok a1 a2 → μ a1 a2 < d → post (val a1 a2) → W d post a1 a2 := by
  intro d
  induction d with
  | zero => intro post a1 a2 _ h; omega
  | succ d ih =>
    intro post a1 a2 ho hm hp
    exact hs d post a1 a2 ho hp (fun post' b1 b2 ho' hm' hp' => ih post' b1 b2 ho' (by omega) hp')
theorem rp3 {ρ A1 A2 A3 : Type} (W : Nat → (ρ → Prop) → A1 → A2 → A3 → Prop) (ok : A1 → A2 → A3 → Prop) (μ : A1 → A2 → A3 → Nat) (val : A1 → A2 → A3 → ρ)
    (hs : ∀ (d : Nat) (post : ρ → Prop) (a1 : A1) (a2 : A2) (a3 : A3), ok a1 a2 a3 → post (val a1 a2 a3) → (∀ (post' : ρ → Prop) (b1 : A1) (b2 : A2) (b3 : A3), ok b1 b2 b3 → μ b1 b2 b3 < μ a1 a2 a3 → post' (val b1 b2 b3) → W d post' b1 b2 b3) → W (d + 1) post a1 a2 a3) :
    ∀ (d : Nat) (post : ρ → Prop) (a1 : A1) (a2 : A2) (a3 : A3), ok a1 a2 a3 → μ a1 a2 a3 < d → post (val a1 a2 a3) → W d post a1 a2 a3 := by
  intro d
  induction d with
  | zero => intro post a1 a2 a3 _ h; omega
  | succ d ih =>
    intro post a1 a2 a3 ho hm hp
    exact hs d post a1 a2 a3 ho hp (fun post' b1 b2 b3 ho' hm' hp' => ih post' b1 b2 b3 ho' (by omega) hp')
theorem rp4 {ρ A1 A2 A3 A4 : Type} (W : Nat → (ρ → Prop) → A1 → A2 → A3 → A4 → Prop) (ok : A1 → A2 → A3 → A4 → Prop) (μ : A1 → A2 → A3 → A4 → Nat) (val : A1 → A2 → A3 → A4 → ρ)
    (hs : ∀ (d : Nat) (post : ρ → Prop) (a1 : A1) (a2 : A2) (a3 : A3) (a4 : A4), ok a1 a2 a3 a4 → post (val a1 a2 a3 a4) → (∀ (post' : ρ → Prop) (b1 : A1) (b2 : A2) (b3 : A3) (b4 : A4), ok b1 b2 b3 b4 → μ b1 b2 b3 b4 < μ a1 a2 a3 a4 → post' (val b1 b2 b3 b4) → W d post' b1 b2 b3 b4) → W (d + 1) post a1 a2 a3 a4) :
    ∀ (d : Nat) (post : ρ → Prop) (a1 : A1) (a2 : A2) (a3 : A3) (a4 : A4), ok a1 a2 a3 a4 → μ a1 a2 a3 a4 < d → post (val a1 a2 a3 a4) → W d post a1 a2 a3 a4 := by
  intro d
  induction d with
  | zero => intro post a1 a2 a3 a4 _ h; omega
  | succ d ih =>
    intro post a1 a2 a3 a4 ho hm hp
    exact hs d post a1 a2 a3 a4 ho hp (fun post' b1 b2 b3 b4 ho' hm' hp' => ih post' b1 b2 b3 b4 ho' (by omega) hp')
theorem rp5 {ρ A1 A2 A3 A4 A5 : Type} (W : Nat → (ρ → Prop) → A1 → A2 → A3 → A4 → A5 → Prop) (ok : A1 → A2 → A3 → A4 → A5 → Prop) (μ : A1 → A2 → A3 → A4 → A5 → Nat) (val : A1 → A2 → A3 → A4 → A5 → ρ)
    (hs : ∀ (d : Nat) (post : ρ → Prop) (a1 : A1) (a2 : A2) (a3 : A3) (a4 : A4) (a5 : A5), ok a1 a2 a3 a4 a5 → post (val a1 a2 a3 a4 a5) → (∀ (post' : ρ → Prop) (b1 : A1) (b2 : A2) (b3 : A3) (b4 : A4) (b5 : A5), ok b1 b2 b3 b4 b5 → μ b1 b2 b3 b4 b5 < μ a1 a2 a3 a4 a5 → post' (val b1 b2 b3 b4 b5) → W d post' b1 b2 b3 b4 b5) → W (d + 1) post a1 a2 a3 a4 a5) :
    ∀ (d : Nat) (post : ρ → Prop) (a1 : A1) (a2 : A2) (a3 : A3) (a4 : A4) (a5 : A5), ok a1 a2 a3 a4 a5 → μ a1 a2 a3 a4 a5 < d → post (val a1 a2 a3 a4 a5) → W d post a1 a2 a3 a4 a5 := by
  intro d
  induction d with
  | zero => intro post a1 a2 a3 a4 a5 _ h; omega
  | succ d ih =>
    intro post a1 a2 a3 a4 a5 ho hm hp
    exact hs d post a1 a2 a3 a4 a5 ho hp (fun post' b1 b2 b3 b4 b5 ho' hm' hp' => ih post' b1 b2 b3 b4 b5 ho' (by omega) hp')
theorem rp6 {ρ A1 A2 A3 A4 A5 A6 : Type} (W : Nat → (ρ → Prop) → A1 → A2 → A3 → A4 → A5 → A6 → Prop) (ok : A1 → A2 → A3 → A4 → A5 → A6 → Prop) (μ : A1 → A2 → A3 → A4 → A5 → A6 → Nat) (val : A1 → A2 → A3 → A4 → A5 → A6 → ρ)
    (hs : ∀ (d : Nat) (post : ρ → Prop) (a1 : A1) (a2 : A2) (a3 : A3) (a4 : A4) (a5 : A5) (a6 : A6), ok a1 a2 a3 a4 a5 a6 → post (val a1 a2 a3 a4 a5 a6) → (∀ (post' : ρ → Prop) (b1 : A1) (b2 : A2) (b3 : A3) (b4 : A4) (b5 : A5) (b6 : A6), ok b1 b2 b3 b4 b5 b6 → μ b1 b2 b3 b4 b5 b6 < μ a1 a2 a3 a4 a5 a6 → post' (val b1 b2 b3 b4 b5 b6) → W d post' b1 b2 b3 b4 b5 b6) → W (d + 1) post a1 a2 a3 a4 a5 a6) :
    ∀ (d : Nat) (post : ρ → Prop) (a1 : A1) (a2 : A2) (a3 : A3) (a4 : A4) (a5 : A5) (a6 : A6), ok a1 a2 a3 a4 a5 a6 → μ a1 a2 a3 a4 a5 a6 < d → post (val a1 a2 a3 a4 a5 a6) → W d post a1 a2 a3 a4 a5 a6 := by
  intro d
  induction d with
  | zero => intro post a1 a2 a3 a4 a5 a6 _ h; omega
  | succ d ih =>
    intro post a1 a2 a3 a4 a5 a6 ho hm hp
    exact hs d post a1 a2 a3 a4 a5 a6 ho hp (fun post' b1 b2 b3 b4 b5 b6 ho' hm' hp' => ih post' b1 b2 b3 b4 b5 b6 ho' (by omega) hp')
theorem rec_p {σ ρ : Type} (W : Nat → (ρ → Prop) → σ → Prop) (ok : σ → Prop) (μ : σ → Nat) (val : σ → ρ)
    (hs : ∀ d s post, ok s → post (val s) → (∀ s' post', ok s' → μ s' < μ s → post' (val s') → W d post' s') → W (d + 1) post s) :
    ∀ d s post, ok s → μ s < d → post (val s) → W d post s := by
  intro d
  induction d with
  | zero => intro s post _ h; omega
  | succ d ih =>
    intro s post ho hm hp
    exact hs d s post ho hp (fun s' post' ho' hm' hp' => ih s' post' ho' (by omega) hp')
theorem rec_q {σ ρ : Type} (W : Nat → (ρ → Prop) → σ → Prop) (ok : σ → Prop) (μ : σ → Nat) (Q : σ → ρ → Prop)
    (hs : ∀ d s post, ok s → (∀ r, Q s r → post r) → (∀ s' post', ok s' → μ s' < μ s → (∀ r, Q s' r → post' r) → W d post' s') → W (d + 1) post s) :
    ∀ d s post, ok s → μ s < d → (∀ r, Q s r → post r) → W d post s := by
  intro d
  induction d with
  | zero => intro s post _ h; omega
  | succ d ih =>
    intro s post ho hm hp
    exact hs d s post ho hp (fun s' post' ho' hm' hp' => ih s' post' ho' (by omega) hp')
def bx_sum (f : Nat → Int32) : Nat → Int32
  | 0 => 0
  | n + 1 => bx_sum f n + f n
theorem ek_u {A : Prop} {B : Nat → Prop} {k N : Nat} (hk : k < N) (h : B k) : (some k = none → A) ∧ (∀ y : Nat, some k = some y → (y < N ∧ B y)) :=
  ⟨fun z => absurd z (Option.some_ne_none k), fun _ e => (by cases e; exact ⟨hk, h⟩)⟩
theorem ek_nu {A : Prop} {B : Nat → Prop} (h : A) : ((none : Option Nat) = none → A) ∧ (∀ y : Nat, (none : Option Nat) = some y → B y) :=
  ⟨fun _ => h, fun _ e => (by cases e)⟩
theorem ek_if {c d A B : Prop} (e : c ↔ d) (f : d → A) (g : ¬ d → B) : (c → A) ∧ (¬ c → B) :=
  ⟨fun z => f (e.mp z), fun z => g (fun y => z (e.mpr y))⟩
theorem ek_v {α : Sort _} {P : α → Prop} {a b : α} (e : a = b) (h : P b) : P a := e ▸ h
theorem co_some {x : Option Nat} {A : Prop} {B : Nat → Prop} (i : Nat) (h : B i) (hx : x = some i := by rfl) : (x = none → A) ∧ (∀ y : Nat, x = some y → B y) := by
  subst hx
  exact ⟨fun e => (nomatch e), fun y e => Option.some.inj e ▸ h⟩
theorem co_none {x : Option Nat} {A : Prop} {B : Nat → Prop} (h : A) (hx : x = none := by rfl) : (x = none → A) ∧ (∀ y : Nat, x = some y → B y) := by
  subst hx
  exact ⟨fun _ => h, fun y e => (nomatch e)⟩
theorem co_any {x : Option Nat} {A : Prop} {B : Nat → Prop} (hn : x = none → A) (hs : ∀ i : Nat, x = some i → B i) : (x = none → A) ∧ (∀ y : Nat, x = some y → B y) := ⟨hn, hs⟩
theorem co_2 {P : Nat → Prop} (h0 : P 0) (h1 : P 1) {i : Nat} (hi : i < 2) : P i :=
  match i, hi with
  | 0, _ => h0
  | 1, _ => h1
theorem co_3 {P : Nat → Prop} (h0 : P 0) (h1 : P 1) (h2 : P 2) {i : Nat} (hi : i < 3) : P i :=
  match i, hi with
  | 0, _ => h0
  | 1, _ => h1
  | 2, _ => h2
theorem co_4 {P : Nat → Prop} (h0 : P 0) (h1 : P 1) (h2 : P 2) (h3 : P 3) {i : Nat} (hi : i < 4) : P i :=
  match i, hi with
  | 0, _ => h0
  | 1, _ => h1
  | 2, _ => h2
  | 3, _ => h3
theorem co_dec {N : Nat} {P : Nat → Prop} [DecidablePred P] (h : (List.range N).all (fun i => decide (P i)) = true) {i : Nat} (hi : i < N) : P i := by
  have := List.all_eq_true.mp h i (List.mem_range.mpr hi)
  exact of_decide_eq_true this
theorem co_tab {α : Type} {l : List α} {d : α} {P : α → Prop} (h : ∀ a, a ∈ l → P a) {i : Nat} (hi : i < l.length) : P (l.getD i d) := by
  rw [List.getD_eq_getElem?_getD, List.getElem?_eq_getElem hi]
  exact h _ (List.getElem_mem hi)
theorem pk_mu {x : Int32} {L : Nat} (h0 : ¬ x < 0) (h : ¬ nI L ≤ x) (hL : L < 2 ^ 31) : ∃ j : Nat, j < L ∧ x = nI j ∧ x + 1 = nI (j + 1) ∧ x.toNatClampNeg = j ∧ L - (x + 1).toNatClampNeg < L - x.toNatClampNeg := by
  obtain ⟨j, hj, rfl⟩ := nI_of h0
  have hl : j < L := Nat.not_le.mp fun q => h (nI_le q hj)
  refine ⟨j, hl, rfl, nI_1 j, nI_clamp hj, ?_⟩
  rw [nI_1, nI_clamp (by omega), nI_clamp hj]
  omega
theorem op_s {α : Type} {r : Option α} {A : Prop} {B : α → Prop} {y : α} (h : r = some y) (b : B y) : (r = none → A) ∧ ∀ z, r = some z → B z :=
  ⟨fun e => (by rw [h] at e; cases e), fun z e => (by rw [h] at e; cases e; exact b)⟩
def l_holds {α : Type} (a : Nat → Option Nat) (LP : List Nat) (p : Nat → α) (c : Nat) (b : Nat → α) : Prop :=
  ∀ j, j < c → ∃ y, a j = some y ∧ y ∈ LP ∧ p y = b j
theorem l_holds_0 {α : Type} {a : Nat → Option Nat} {LP : List Nat} {p b : Nat → α} : l_holds a LP p 0 b := fun j h => absurd h (Nat.not_lt_zero j)
theorem l_in_new (LP : List Nat) (q : Nat) : q ∈ LP ++ [q] := List.mem_append.mpr (Or.inr (List.mem_singleton.mpr rfl))
def l_sum (b : Nat → Int32) : Nat → Int32
  | 0 => 0
  | k + 1 => l_sum b k + b k
theorem sb_shr0 (x : Int32) : x >>> ((0 : Int32) &&& 31) = x := by
  rw [show ((0 : Int32) &&& 31) = 0 by decide]
  simp
theorem sb_shl0 (x : Int32) : x <<< ((0 : Int32) &&& 31) = x := by
  rw [show ((0 : Int32) &&& 31) = 0 by decide]
  simp
theorem sb_cl0 : (0 : Int32).toNatClampNeg = 0 := by decide
theorem sb_m1 {p : Nat} (h : 0 < p) : nI p + (-1) = nI (p - 1) := by
  obtain ⟨q, rfl⟩ : ∃ q, p = q + 1 := ⟨p - 1, by omega⟩
  exact pk_m1 q
def sb_b (c : Nat) : Int32 := (nI c).toInt8.toInt32
theorem sb_byte : ∀ c, c < 256 → sb_b c &&& 255 = nI c ∧ ((nI c).toUInt32 % 65536).toInt32 = nI c ∧ nI c ≤ 255 := by decide +kernel
def sb_Fit (a : Nat → Int32) : Prop := ∀ j, fits .byte (.int (a j)) = true
def sb_Lat (t : Nat → Nat) (n : Nat) (a : Nat → Int32) : Prop := ∀ j, j < n → t j < 256 ∧ a j = sb_b (t j)
theorem sb_fitB (c : Nat) : fits .byte (.int (sb_b c)) = true := pk_fb _
theorem sb_fit0 : sb_Fit (fun _ => 0) := fun _ => by
  show fits .byte (.int 0) = true
  decide
theorem sb_fitU {a : Nat → Int32} {k : Nat} {x : Int32} (h : sb_Fit a) (hx : fits .byte (.int x) = true) : sb_Fit (upd a k x) := by
  intro j
  by_cases e : j = k
  · subst e
    rw [pk_us]
    exact hx
  · rw [pk_un e]
    exact h j
def sb_cat (t : Nat → Nat) (n : Nat) (s : Nat → Nat) : Nat → Nat := fun j => if j < n then t j else s (j - n)
theorem sb_cat_lo {t s : Nat → Nat} {n j : Nat} (h : j < n) : sb_cat t n s j = t j := if_pos h
theorem sb_cat_hi {t s : Nat → Nat} {n j : Nat} : sb_cat t n s (n + j) = s j := by
  show (if n + j < n then t (n + j) else s (n + j - n)) = s j
  rw [if_neg (by omega), Nat.add_sub_cancel_left]
theorem sb_latPut {t s : Nat → Nat} {n w : Nat} {a a' : Nat → Int32} (h : sb_Lat t n a) (hk : ∀ j, j < n → a' j = a j) (hs : ∀ i, i < w → s i < 256 ∧ a' (n + i) = sb_b (s i)) : sb_Lat (sb_cat t n s) (n + w) a' := by
  intro j hj
  by_cases e : j < n
  · rw [sb_cat_lo e, hk j e]
    exact h j e
  · obtain ⟨i, rfl⟩ : ∃ i, j = n + i := ⟨j - n, by omega⟩
    rw [sb_cat_hi]
    exact hs i (by omega)
theorem sb_latKeep {t : Nat → Nat} {n : Nat} {a a' : Nat → Int32} (h : sb_Lat t n a) (hk : ∀ j, j < n → a' j = a j) : sb_Lat t n a' := fun j hj => by
  rw [hk j hj]
  exact h j hj
def sb_cap (q m : Nat) : Nat := if q ≤ m then m else if 2 * m + 2 < q then q else 2 * m + 2
def sb_Room (q m mc ms : Nat) : Prop := q ≤ m ∨ (1 ≤ mc ∧ sb_cap q m ≤ ms ∧ sb_cap q m ≤ 65536)
theorem sb_cap_ge (q m : Nat) : q ≤ sb_cap q m := by
  unfold sb_cap
  split
  · omega
  · split <;> omega
theorem sb_cap_gem (q m : Nat) : m ≤ sb_cap q m := by
  unfold sb_cap
  split
  · omega
  · split <;> omega
theorem sb_cap_le {q m mc ms : Nat} (hm : m ≤ 65536) (hr : sb_Room q m mc ms) : sb_cap q m ≤ 65536 := by
  rcases hr with h | h
  · rw [sb_cap, if_pos h]
    exact hm
  · exact h.2.2
theorem sb_at {P : Int32 → Prop} {x y : Int32} (e : x = y) (h : P y) : P x := e ▸ h
def sb_dg (w : Nat) : Nat := if w < 10 then 1 else if w < 100 then 2 else if w < 1000 then 3 else if w < 10000 then 4 else if w < 100000 then 5 else if w < 1000000 then 6 else if w < 10000000 then 7 else if w < 100000000 then 8 else if w < 1000000000 then 9 else 10
def sb_dec (v : Nat) : Nat → Nat := fun i => 48 + v / 10 ^ (sb_dg v - 1 - i) % 10
theorem sb_dg_in (w : Nat) : 1 ≤ sb_dg w ∧ sb_dg w ≤ 10 := by
  unfold sb_dg
  constructor <;> (repeat' split) <;> omega
theorem sb_dg100 {w : Nat} (h : 100 ≤ w) (hw : w < 2 ^ 31) : sb_dg w = sb_dg (w / 100) + 2 := by
  rw [sb_dg, sb_dg, if_neg (show ¬ w < 10 by omega), if_neg (show ¬ w < 100 by omega)]
  by_cases h3 : w < 1000
  · rw [if_pos h3, if_pos (show w / 100 < 10 by omega)]
  rw [if_neg h3, if_neg (show ¬ w / 100 < 10 by omega)]
  by_cases h4 : w < 10000
  · rw [if_pos h4, if_pos (show w / 100 < 100 by omega)]
  rw [if_neg h4, if_neg (show ¬ w / 100 < 100 by omega)]
  by_cases h5 : w < 100000
  · rw [if_pos h5, if_pos (show w / 100 < 1000 by omega)]
  rw [if_neg h5, if_neg (show ¬ w / 100 < 1000 by omega)]
  by_cases h6 : w < 1000000
  · rw [if_pos h6, if_pos (show w / 100 < 10000 by omega)]
  rw [if_neg h6, if_neg (show ¬ w / 100 < 10000 by omega)]
  by_cases h7 : w < 10000000
  · rw [if_pos h7, if_pos (show w / 100 < 100000 by omega)]
  rw [if_neg h7, if_neg (show ¬ w / 100 < 100000 by omega)]
  by_cases h8 : w < 100000000
  · rw [if_pos h8, if_pos (show w / 100 < 1000000 by omega)]
  rw [if_neg h8, if_neg (show ¬ w / 100 < 1000000 by omega)]
  by_cases h9 : w < 1000000000
  · rw [if_pos h9, if_pos (show w / 100 < 10000000 by omega)]
  rw [if_neg h9, if_neg (show ¬ w / 100 < 10000000 by omega)]
  rw [if_pos (show w / 100 < 100000000 by omega)]
theorem sb_negT {w : Nat} (h : w < 2 ^ 31) : (-nI w).toInt = -(w : Int) := by
  rw [Int32.toInt_neg, nI_toInt h]
  exact Int.bmod_eq_of_le (by omega) (by omega)
theorem sb_nle {a b : Nat} (ha : a < 2 ^ 31) (hb : b < 2 ^ 31) : -nI a ≤ -nI b ↔ b ≤ a := by
  rw [Int32.le_iff_toInt_le, sb_negT ha, sb_negT hb]
  omega
theorem sb_nlt {a b : Nat} (ha : a < 2 ^ 31) (hb : b < 2 ^ 31) : -nI a < -nI b ↔ b < a := by
  rw [Int32.lt_iff_toInt_lt, sb_negT ha, sb_negT hb]
  omega
theorem sb_cmp {A B : Prop} {x : Int32} (v c : Nat) (f : c ≤ v → A) (g : v < c → B) (hv : v < 2 ^ 31) (hx : x = -nI c := by rfl) (hc : c < 2 ^ 31 := by omega) : (-nI v ≤ x → A) ∧ (¬ -nI v ≤ x → B) := by
  subst hx
  rw [sb_nle hv hc]
  exact ⟨f, fun z => g (by omega)⟩
theorem sb_ndiv {w : Nat} (hw : w < 2 ^ 31) : (-nI w) / 100 = -nI (w / 100) := by
  apply Int32.toInt_inj.mp
  have h100 : (100 : Int32).toInt = 100 := by decide
  rw [Int32.toInt_div, sb_negT hw, h100, sb_negT (by omega), Int.neg_tdiv, Int.tdiv_eq_ediv_of_nonneg (by omega), Int.bmod_eq_of_le (by omega) (by omega)]
  omega
theorem sb_nrem {w : Nat} (hw : w < 2 ^ 31) : (-nI (w / 100)) * 100 - (-nI w) = nI (w % 100) := by
  have h := pk_rem (a := w) (d := 100) hw (by decide) (by decide)
  rw [pk_div hw (by decide) (by decide)] at h
  rw [← h]
  show (-nI (w / 100)) * nI 100 - (-nI w) = nI w - nI (w / 100) * nI 100
  rw [Int32.neg_mul, Int32.sub_neg, Int32.add_comm, ← Int32.sub_eq_add_neg]
end
section
/-! rows on bits, shifts and unsigned numbers, to paste: each family out of a closed proof of our own, whole with what it rests on; each by itself clean at Lean in its own claim (generation 39, form 5). Take a family whole -/
/-! ===== Int32 by its bits: bt x i ===== -/
def bt (x : Int32) (i : Nat) : Bool := x.toBitVec.getLsbD i
theorem b_ext {x y : Int32} (h : ∀ i, i < 32 → bt x i = bt y i) : x = y := Int32.toBitVec_inj.mp (BitVec.eq_of_getLsbD_eq (fun i hi => h i hi))
theorem b_or (x y : Int32) (i : Nat) : bt (x ||| y) i = (bt x i || bt y i) := by unfold bt; rw [Int32.toBitVec_or, BitVec.getLsbD_or]
theorem b_and (x y : Int32) (i : Nat) : bt (x &&& y) i = (bt x i && bt y i) := by unfold bt; rw [Int32.toBitVec_and, BitVec.getLsbD_and]
theorem b_xor (x y : Int32) (i : Nat) : bt (x ^^^ y) i = (bt x i ^^ bt y i) := by unfold bt; rw [Int32.toBitVec_xor, BitVec.getLsbD_xor]
theorem b_big {x : Int32} {i : Nat} (h : 32 ≤ i) : bt x i = false := BitVec.getLsbD_of_ge _ _ h
theorem b_255 (i : Nat) : bt 255 i = decide (i < 8) := by
  rcases Nat.lt_or_ge i 32 with h | h
  · exact (by decide +kernel : ∀ i, i < 32 → bt 255 i = decide (i < 8)) i h
  · rw [b_big h, decide_eq_false (by omega)]
theorem b_65535 (i : Nat) : bt 65535 i = decide (i < 16) := by
  rcases Nat.lt_or_ge i 32 with h | h
  · exact (by decide +kernel : ∀ i, i < 32 → bt 65535 i = decide (i < 16)) i h
  · rw [b_big h, decide_eq_false (by omega)]
theorem b_m1 : ∀ i, i < 32 → bt (-1) i = true := by decide +kernel
theorem b_0 (i : Nat) : bt 0 i = false := BitVec.getLsbD_zero
theorem s_l : ∀ n, n < 32 → ((nI n &&& 31).toBitVec.smod 32).toNat = n := by decide +kernel
theorem s_u : ∀ n, n < 32 → (((nI n).toUInt32 &&& Int32.toUInt32 31).toBitVec % 32).toNat = n := by decide +kernel
theorem b_shl (n : Nat) (hn : n < 32) (x : Int32) {i : Nat} (hi : i < 32) : bt (x <<< (nI n &&& 31)) i = (decide (n ≤ i) && bt x (i - n)) := by
  unfold bt
  rw [Int32.toBitVec_shiftLeft]
  show (x.toBitVec <<< ((nI n &&& 31).toBitVec.smod 32).toNat).getLsbD i = _
  rw [s_l n hn, BitVec.getLsbD_shiftLeft]
  rcases Nat.lt_or_ge i n with h | h
  · simp [h, Nat.not_le.mpr h]
  · simp [hi, h, Nat.not_lt.mpr h]
theorem b_ushr (n : Nat) (hn : n < 32) (x : Int32) (i : Nat) : bt ((x.toUInt32 >>> ((nI n).toUInt32 &&& Int32.toUInt32 31)).toInt32) i = bt x (n + i) := by
  show (x.toUInt32 >>> ((nI n).toUInt32 &&& Int32.toUInt32 31)).toBitVec.getLsbD i = x.toUInt32.toBitVec.getLsbD (n + i)
  rw [UInt32.toBitVec_shiftRight]
  show (x.toUInt32.toBitVec >>> (((nI n).toUInt32 &&& Int32.toUInt32 31).toBitVec % 32).toNat).getLsbD i = _
  rw [s_u n hn, BitVec.getLsbD_ushiftRight]
theorem b_sshr (n : Nat) (hn : n < 32) (x : Int32) {i : Nat} (hi : i < 32) : bt (x >>> (nI n &&& 31)) i = if n + i < 32 then bt x (n + i) else bt x 31 := by
  unfold bt
  rw [Int32.toBitVec_shiftRight]
  show (x.toBitVec.sshiftRight ((nI n &&& 31).toBitVec.smod 32).toNat).getLsbD i = _
  rw [s_l n hn, BitVec.getLsbD_sshiftRight, BitVec.msb_eq_getLsbD_last]
  simp [hi]
theorem b_shl8 (x : Int32) {i : Nat} (hi : i < 32) : bt (x <<< ((8 : Int32) &&& 31)) i = (decide (8 ≤ i) && bt x (i - 8)) := b_shl 8 (by omega) x hi
theorem b_shl16 (x : Int32) {i : Nat} (hi : i < 32) : bt (x <<< ((16 : Int32) &&& 31)) i = (decide (16 ≤ i) && bt x (i - 16)) := b_shl 16 (by omega) x hi
theorem b_shl24 (x : Int32) {i : Nat} (hi : i < 32) : bt (x <<< ((24 : Int32) &&& 31)) i = (decide (24 ≤ i) && bt x (i - 24)) := b_shl 24 (by omega) x hi
theorem b_sshr8 (x : Int32) {i : Nat} (hi : i < 32) : bt (x >>> ((8 : Int32) &&& 31)) i = if 8 + i < 32 then bt x (8 + i) else bt x 31 := b_sshr 8 (by omega) x hi
/-! ===== nI under and, xor, >>>, one bit, 65535 ===== -/
theorem nx_and (a b : Nat) : nI a &&& nI b = nI (a &&& b) := by
  apply Int32.toBitVec_inj.1
  show BitVec.ofNat 32 a &&& BitVec.ofNat 32 b = BitVec.ofNat 32 (a &&& b)
  apply BitVec.eq_of_getLsbD_eq
  intro i hi
  simp [hi]
theorem nx_xor (a b : Nat) : nI a ^^^ nI b = nI (a ^^^ b) := by
  apply Int32.toBitVec_inj.1
  show BitVec.ofNat 32 a ^^^ BitVec.ofNat 32 b = BitVec.ofNat 32 (a ^^^ b)
  apply BitVec.eq_of_getLsbD_eq
  intro i hi
  simp [hi]
theorem nx_cnt : ∀ j : Fin 32, (UInt32.ofNat j.val &&& Int32.toUInt32 31).toNat % 32 = j.val := by decide +kernel
theorem nx_ush {k j : Nat} (hk : k < 65536) (hj : j < 32) : ((nI k).toUInt32 >>> ((nI j).toUInt32 &&& Int32.toUInt32 31)).toInt32 = nI (k >>> j) := by
  have hs : k >>> j ≤ k := by
    rw [Nat.shiftRight_eq_div_pow]
    exact Nat.div_le_self _ _
  have e2 : UInt32.ofNat k >>> (UInt32.ofNat j &&& Int32.toUInt32 31) = UInt32.ofNat (k >>> j) := by
    apply UInt32.toNat_inj.1
    have h1 : (UInt32.ofNat k).toNat = k := Nat.mod_eq_of_lt (by omega)
    have h2 : (UInt32.ofNat (k >>> j)).toNat = k >>> j := Nat.mod_eq_of_lt (by omega)
    rw [UInt32.toNat_shiftRight, nx_cnt ⟨j, hj⟩, h1, h2]
  show (UInt32.ofNat k >>> (UInt32.ofNat j &&& Int32.toUInt32 31)).toInt32 = _
  rw [e2]
  rfl
theorem nx_bit {k j : Nat} (hk : k < 65536) (hj : j < 16) : (((nI k).toUInt32 >>> ((nI j).toUInt32 &&& Int32.toUInt32 31)).toInt32 &&& 1) = 0 ↔ k.testBit j = false := by
  rw [nx_ush hk (by omega)]
  show nI (k >>> j) &&& nI 1 = 0 ↔ _
  rw [nx_and, Nat.and_one_is_mod, ← nI_0, nI_eq (by omega) (by omega), Nat.testBit_eq_decide_div_mod_eq, Nat.shiftRight_eq_div_pow, decide_eq_false_iff_not]
  generalize k / 2 ^ j = z
  omega
theorem nx_mod (k : Nat) : nI k &&& 65535 = nI (k % 65536) := by
  show nI k &&& nI 65535 = _
  rw [nx_and, show (65535 : Nat) = 2 ^ 16 - 1 from rfl, Nat.and_two_pow_sub_one_eq_mod]
theorem nx_m16 {k : Nat} (h : k < 65536) : nI k &&& 65535 = nI k := by rw [nx_mod, Nat.mod_eq_of_lt h]
theorem nx_mask (x : Int32) : ∃ k, k < 65536 ∧ x &&& 65535 = nI k := by
  have e : x = nI x.toBitVec.toNat := by
    apply Int32.toBitVec_inj.1
    show x.toBitVec = BitVec.ofNat 32 x.toBitVec.toNat
    simp
  refine ⟨x.toBitVec.toNat % 65536, Nat.mod_lt _ (by omega), ?_⟩
  rw [← nx_mod, ← e]
/-! ===== Int32 as a set of bits: test, set ===== -/
def nf_M (m : Int32) : Nat := 4294967296 - m.toBitVec.toNat
theorem nf_sh : ∀ l, l < 32 → ((1 : Int32) <<< (nI l &&& 31)).toBitVec = BitVec.twoPow 32 l := by decide +kernel
theorem nf_sl : ∀ l, l < 32 → (((nI l).toUInt32 &&& Int32.toUInt32 31).toBitVec % 32).toNat = l := by decide +kernel
theorem nf_tp : ∀ l, l < 32 → BitVec.twoPow 32 l ≠ 0#32 := by decide +kernel
theorem nf_bit (m : Int32) (l : Nat) (hl : l < 32) : ((m.toUInt32 >>> ((nI l).toUInt32 &&& Int32.toUInt32 31)).toInt32 &&& 1) = 0 ↔ (m &&& ((1 : Int32) <<< (nI l &&& 31))) = 0 := by
  have e : ((m.toUInt32 >>> ((nI l).toUInt32 &&& Int32.toUInt32 31)).toInt32).toBitVec = m.toBitVec >>> l := by
    show m.toBitVec >>> (((nI l).toUInt32 &&& Int32.toUInt32 31).toBitVec % 32) = m.toBitVec >>> l
    rw [BitVec.ushiftRight_eq', nf_sl l hl]
  rw [← Int32.toBitVec_inj, ← Int32.toBitVec_inj, Int32.toBitVec_and, Int32.toBitVec_and, nf_sh l hl, e, BitVec.and_twoPow]
  show (m.toBitVec >>> l &&& 1#32) = 0#32 ↔ _ = 0#32
  rw [BitVec.and_one_eq_setWidth_ofBool_getLsbD, BitVec.getLsbD_ushiftRight, Nat.add_zero]
  cases hb : m.toBitVec.getLsbD l
  · exact ⟨fun _ => by simp, fun _ => by decide⟩
  · exact ⟨fun z => absurd z (by decide), fun z => absurd ((if_pos rfl).symm.trans z) (nf_tp l hl)⟩
theorem nf_gr (m k : Int32) (h : m &&& k = 0) (hk : k ≠ 0) : nf_M (m ||| k) < nf_M m := by
  have hm := m.toBitVec.isLt
  have hm' := (m ||| k).toBitVec.isLt
  have h1 : m.toBitVec.toNat ≤ (m ||| k).toBitVec.toNat := by
    rw [Int32.toBitVec_or, BitVec.toNat_or]
    exact Nat.left_le_or
  have h2 : m.toBitVec.toNat ≠ (m ||| k).toBitVec.toNat := by
    intro e
    have e2 : m = m ||| k := Int32.toBitVec_inj.mp (BitVec.eq_of_toNat_eq e)
    apply hk
    apply Int32.toBitVec_inj.mp
    show k.toBitVec = 0#32
    apply BitVec.eq_of_getLsbD_eq
    intro i hi
    have a : m.toBitVec.getLsbD i = (m.toBitVec.getLsbD i || k.toBitVec.getLsbD i) := by rw [← BitVec.getLsbD_or, ← Int32.toBitVec_or, ← e2]
    have b : (m.toBitVec.getLsbD i && k.toBitVec.getLsbD i) = false := by
      rw [← BitVec.getLsbD_and, ← Int32.toBitVec_and, h]
      exact BitVec.getLsbD_zero
    rw [BitVec.getLsbD_zero]
    revert a b
    cases m.toBitVec.getLsbD i <;> cases k.toBitVec.getLsbD i <;> simp
  unfold nf_M
  omega
/-! ===== a byte read unsigned ===== -/
theorem bp_b (x : Int32) : x.toInt8.toInt32 &&& 255 = x &&& 255 := by
  apply Int32.toBitVec_inj.mp
  rw [Int32.toBitVec_and, Int32.toBitVec_and, Int8.toBitVec_toInt32, Int32.toBitVec_toInt8]
  apply BitVec.eq_of_getLsbD_eq
  intro i hi
  rw [BitVec.getLsbD_and, BitVec.getLsbD_and]
  have hm : ∀ i < 32, 8 ≤ i → (255 : Int32).toBitVec.getLsbD i = false := by decide
  rcases Nat.lt_or_ge i 8 with z | z
  · rw [BitVec.getLsbD_signExtend, BitVec.getLsbD_signExtend, if_pos z, if_pos hi]
    simp only [z, hi, decide_true, Bool.true_and]
  · rw [hm i hi z]; simp
/-! ===== the char cast and 65535 ===== -/
theorem em_w (v : Int32) : ∃ w : Nat, w < 65536 ∧ (v.toUInt32 % 65536).toInt32 = nI w ∧ v &&& 65535 = nI w := by
  have hr := lw_u16_r v
  have h0 : (0 : Int32).toInt = 0 := by decide
  obtain ⟨w, h1, h2⟩ := nI_of (x := lw_u16 v) (by rw [Int32.lt_iff_toInt_lt]; omega)
  have h3 : (v.toUInt32 % 65536).toInt32 = nI w := h2
  rw [h2, nI_toInt h1] at hr
  exact ⟨w, by omega, h3, by rw [← lg_i2c_mask, ← lg_i2c_nf, h3]⟩
/-! ===== Int64 as a set of bits: test, set, clear ===== -/
theorem ts_nf {x : Bool} (h : ¬ x = false) : x = true := by cases x <;> first | rfl | exact absurd rfl h
theorem ts_nt {x : Bool} (h : ¬ x = true) : x = false := by cases x <;> first | rfl | exact absurd rfl h
theorem ts_bit {w : Int64} {s : UInt64} {j : Nat} (hj : j < 64) (hs : s.toNat = j) : ((w.toUInt64 >>> s).toInt64 &&& 1) = 0 ↔ w.toBitVec.getLsbD j = false := by
  have e : (w.toUInt64 >>> s).toInt64.toBitVec = w.toBitVec >>> j := by
    apply BitVec.eq_of_toNat_eq
    show (w.toUInt64 >>> s).toNat = _
    rw [UInt64.toNat_shiftRight, hs, Nat.mod_eq_of_lt hj, BitVec.toNat_ushiftRight]
    rfl
  rw [← Int64.toBitVec_inj, Int64.toBitVec_and, e]
  show w.toBitVec >>> j &&& 1#64 = 0#64 ↔ _
  constructor
  · intro h
    have t := congrArg (fun x => x.getLsbD 0) h
    simpa using t
  · intro h
    apply BitVec.eq_of_getLsbD_eq
    intro i hi
    cases i with
    | zero => simp [h]
    | succ i => simp
theorem ts_or {w m : Int64} {j : Nat} (hj : j < 64) (hm : m.toBitVec = BitVec.twoPow 64 j) : (w ||| m) = w ↔ w.toBitVec.getLsbD j = true := by
  rw [← Int64.toBitVec_inj, Int64.toBitVec_or, hm]
  constructor
  · intro h
    have t := congrArg (fun x => x.getLsbD j) h
    simp only [BitVec.getLsbD_or, BitVec.getLsbD_twoPow] at t
    simpa [hj] using t.symm
  · intro h
    apply BitVec.eq_of_getLsbD_eq
    intro i hi
    rw [BitVec.getLsbD_or, BitVec.getLsbD_twoPow]
    by_cases e : j = i
    · subst e; rw [h, Bool.true_or]
    · simp [e]
theorem ts_and {w m : Int64} {j : Nat} (hj : j < 64) (hm : m.toBitVec = BitVec.twoPow 64 j) : (w &&& (m ^^^ (-1))) = w ↔ w.toBitVec.getLsbD j = false := by
  have ha : (-1 : Int64).toBitVec = BitVec.allOnes 64 := by decide
  rw [← Int64.toBitVec_inj, Int64.toBitVec_and, Int64.toBitVec_xor, hm, ha]
  constructor
  · intro h
    have t := congrArg (fun x => x.getLsbD j) h
    simp only [BitVec.getLsbD_and, BitVec.getLsbD_xor, BitVec.getLsbD_twoPow, BitVec.getLsbD_allOnes] at t
    simpa [hj] using t.symm
  · intro h
    apply BitVec.eq_of_getLsbD_eq
    intro i hi
    rw [BitVec.getLsbD_and, BitVec.getLsbD_xor, BitVec.getLsbD_twoPow, BitVec.getLsbD_allOnes]
    by_cases e : j = i
    · subst e; rw [h, Bool.false_and]
    · simp [e, hi]
/-! ===== lN n to 2^64: shifts, and, or, masks, one bit ===== -/
theorem wb_tb (n : Nat) : (lN n).toBitVec = BitVec.ofNat 64 n := rfl
theorem wb_inj {a b : Int64} (h : a.toBitVec = b.toBitVec) : a = b := Int64.toBitVec_inj.mp h
theorem wb_tn {n : Nat} (h : n < 2 ^ 64) : (lN n).toBitVec.toNat = n := by rw [wb_tb, BitVec.toNat_ofNat, Nat.mod_eq_of_lt h]
theorem wb_of (x : Int64) : ∃ n, n < 2 ^ 64 ∧ x = lN n := ⟨x.toBitVec.toNat, x.toBitVec.isLt, wb_inj (by rw [wb_tb]; simp)⟩
theorem wb_of32 (x : Int32) : ∃ n, n < 2 ^ 32 ∧ x = nI n := ⟨x.toBitVec.toNat, x.toBitVec.isLt, Int32.toBitVec_inj.mp (by show _ = BitVec.ofNat 32 _; simp)⟩
theorem wb_c : ∀ k, k < 64 → ((nI k).toInt64 &&& 63) = lN k := by decide +kernel
theorem wb_cu : ∀ k, k < 64 → ((nI k).toInt64.toUInt64 &&& Int64.toUInt64 63) = UInt64.ofNat k := by decide +kernel
theorem wb_sm : ∀ k, k < 64 → (BitVec.ofNat 64 k).smod 64 = BitVec.ofNat 64 k := by decide +kernel
theorem wb_pw {a b : Nat} (h : a ≤ b) : 2 ^ b = 2 ^ a * 2 ^ (b - a) := by rw [← Nat.pow_add]; congr 1; omega
theorem wb_lt2 {a b : Nat} (h : a < b) : 2 ^ a < 2 ^ b := Nat.pow_lt_pow_right (by decide) h
theorem wb_mod (n : Nat) : lN n = lN (n % 2 ^ 64) := wb_inj (by rw [wb_tb, wb_tb]; apply BitVec.eq_of_toNat_eq; rw [BitVec.toNat_ofNat, BitVec.toNat_ofNat, Nat.mod_mod])
theorem wb_shr {n k : Nat} (hn : n < 2 ^ 64) (hk : k < 64) : ((lN n).toUInt64 >>> ((nI k).toInt64.toUInt64 &&& Int64.toUInt64 63)).toInt64 = lN (n / 2 ^ k) := by
  rw [wb_cu k hk]
  apply wb_inj
  apply BitVec.eq_of_toNat_eq
  show ((lN n).toUInt64 >>> UInt64.ofNat k).toNat = (BitVec.ofNat 64 _).toNat
  have h1 : (UInt64.ofNat k).toNat = k := by
    show (BitVec.ofNat 64 k).toNat = k
    rw [BitVec.toNat_ofNat, Nat.mod_eq_of_lt (by omega)]
  have h2 : (lN n).toUInt64.toNat = n := wb_tn hn
  rw [UInt64.toNat_shiftRight, h1, h2, Nat.mod_eq_of_lt hk, Nat.shiftRight_eq_div_pow, BitVec.toNat_ofNat, Nat.mod_eq_of_lt (Nat.lt_of_le_of_lt (Nat.div_le_self _ _) hn)]
theorem wb_shl (n : Nat) {k : Nat} (hk : k < 64) : lN n <<< ((nI k).toInt64 &&& 63) = lN (n * 2 ^ k) := by
  rw [wb_c k hk]
  apply wb_inj
  rw [Int64.toBitVec_shiftLeft, wb_tb, wb_tb, wb_tb, wb_sm k hk]
  apply BitVec.eq_of_toNat_eq
  rw [BitVec.shiftLeft_eq', BitVec.toNat_shiftLeft, BitVec.toNat_ofNat, BitVec.toNat_ofNat, BitVec.toNat_ofNat, Nat.mod_eq_of_lt (show k < 2 ^ 64 by omega), Nat.shiftLeft_eq, Nat.mul_mod, Nat.mod_mod, ← Nat.mul_mod]
theorem wb_and {a b : Nat} (ha : a < 2 ^ 64) (hb : b < 2 ^ 64) : lN a &&& lN b = lN (a &&& b) := by
  apply wb_inj
  rw [Int64.toBitVec_and, wb_tb, wb_tb, wb_tb]
  apply BitVec.eq_of_toNat_eq
  rw [BitVec.toNat_and, BitVec.toNat_ofNat, BitVec.toNat_ofNat, BitVec.toNat_ofNat, Nat.mod_eq_of_lt ha, Nat.mod_eq_of_lt hb, Nat.mod_eq_of_lt (Nat.and_lt_two_pow _ hb)]
theorem wb_or {a b : Nat} (ha : a < 2 ^ 64) (hb : b < 2 ^ 64) : lN a ||| lN b = lN (a ||| b) := by
  apply wb_inj
  rw [Int64.toBitVec_or, wb_tb, wb_tb, wb_tb]
  apply BitVec.eq_of_toNat_eq
  rw [BitVec.toNat_or, BitVec.toNat_ofNat, BitVec.toNat_ofNat, BitVec.toNat_ofNat, Nat.mod_eq_of_lt ha, Nat.mod_eq_of_lt hb, Nat.mod_eq_of_lt (Nat.or_lt_two_pow ha hb)]
theorem wb_mask {n k : Nat} (hn : n < 2 ^ 64) (hk : k < 64) : lN n &&& lN (2 ^ k - 1) = lN (n % 2 ^ k) := by
  rw [wb_and hn (by have := wb_lt2 hk; omega), Nat.and_two_pow_sub_one_eq_mod]
theorem wb_a1 {n : Nat} (hn : n < 2 ^ 64) : lN n &&& 1 = lN (n % 2) := wb_mask (k := 1) hn (by decide)
theorem wb_bit {n k : Nat} (hn : n < 2 ^ 64) (hk : k < 64) : ((lN n).toUInt64 >>> ((nI k).toInt64.toUInt64 &&& Int64.toUInt64 63)).toInt64 &&& 1 = lN (n / 2 ^ k % 2) := by
  rw [wb_shr hn hk, wb_a1 (Nat.lt_of_le_of_lt (Nat.div_le_self _ _) hn)]
theorem wb_xor {q k : Nat} (hk : k < 63) (h : 2 ^ k ≤ q) (h2 : q < 2 ^ (k + 1)) : lN q ^^^ lN (2 ^ k) = lN (q - 2 ^ k) := by
  obtain ⟨r, rfl⟩ : ∃ r, q = 2 ^ k + r := ⟨q - 2 ^ k, by omega⟩
  have hr : r < 2 ^ k := by rw [Nat.pow_succ] at h2; omega
  have hx : (2 ^ k + r) ^^^ 2 ^ k = r := by
    apply Nat.eq_of_testBit_eq
    intro i
    rw [Nat.testBit_xor, Nat.testBit_two_pow]
    rcases Nat.lt_trichotomy i k with h | h | h
    · rw [Nat.testBit_two_pow_add_gt h]
      simp [show ¬ k = i by omega]
    · subst h
      rw [Nat.testBit_two_pow_add_eq]
      simp
    · have a1 : 2 ^ (k + 1) ≤ 2 ^ i := Nat.pow_le_pow_right (by decide) h
      rw [Nat.testBit_lt_two_pow (show 2 ^ k + r < 2 ^ i by omega), Nat.testBit_lt_two_pow (show r < 2 ^ i by omega)]
      simp [show ¬ k = i by omega]
  have b1 := wb_lt2 (show k + 1 < 64 by omega)
  have b2 := wb_lt2 (show k < 64 by omega)
  apply wb_inj
  rw [Int64.toBitVec_xor, wb_tb, wb_tb, wb_tb]
  apply BitVec.eq_of_toNat_eq
  rw [BitVec.toNat_xor, BitVec.toNat_ofNat, BitVec.toNat_ofNat, BitVec.toNat_ofNat, Nat.mod_eq_of_lt (by omega : 2 ^ k + r < 2 ^ 64), Nat.mod_eq_of_lt b2, hx, Nat.add_sub_cancel_left, Nat.mod_eq_of_lt (by omega)]
/-! ===== lN: masks, 'or' of parts that don't overlap is a sum ===== -/
theorem u_tn {n : Nat} (h : n < 2 ^ 64) : (UInt64.ofNat n).toNat = n := Nat.mod_eq_of_lt h
theorem g_and {a b c : Nat} (ha : a < 2 ^ 64) (hb : b < 2 ^ 64) (hc : a &&& b = c) : lN a &&& lN b = lN c := by
  subst hc
  have h : UInt64.ofNat a &&& UInt64.ofNat b = UInt64.ofNat (a &&& b) := UInt64.toNat_inj.mp (by rw [UInt64.toNat_and, u_tn ha, u_tn hb, u_tn (Nat.and_lt_two_pow a hb)])
  have h2 := congrArg UInt64.toInt64 h
  exact h2
theorem g_and1 {a : Nat} (ha : a < 2 ^ 64) : lN a &&& 1 = lN (a % 2) := g_and (b := 1) ha (by decide) (Nat.and_two_pow_sub_one_eq_mod a 1)
theorem g_mask {a s p : Nat} (hp : 2 ^ s = p) (hs : s < 64) (ha : a < 2 ^ 64) : lN a &&& lN (p - 1) = lN (a % p) := by
  subst hp
  have := Nat.pow_lt_pow_right (show 1 < 2 by decide) hs
  exact g_and ha (by omega) (Nat.and_two_pow_sub_one_eq_mod a s)
theorem g_or {k p a b : Nat} (hp : 2 ^ k = p) (ha : a < p) (h : b * p + a < 2 ^ 64) : lN (b * p) ||| lN a = lN (b * p + a) := by
  subst hp
  have h1 : b * 2 ^ k ||| a = b * 2 ^ k + a := by rw [← Nat.shiftLeft_eq, Nat.shiftLeft_add_eq_or_of_lt ha]
  have h3 : UInt64.ofNat (b * 2 ^ k) ||| UInt64.ofNat a = UInt64.ofNat (b * 2 ^ k + a) := UInt64.toNat_inj.mp (by rw [UInt64.toNat_or, u_tn (by omega), u_tn (by omega), u_tn h, h1])
  have h2 := congrArg UInt64.toInt64 h3
  exact h2
theorem g_or' {k p a b : Nat} (hp : 2 ^ k = p) (ha : a < p) (h : a + b * p < 2 ^ 64) : lN a ||| lN (b * p) = lN (a + b * p) := by
  rw [Int64.or_comm, g_or hp ha (by omega), Nat.add_comm]
theorem g_ushr {a k p : Nat} {y : UInt64} (hy : y = UInt64.ofNat k) (hk : k < 64) (hp : 2 ^ k = p) (ha : a < 2 ^ 64) : ((lN a).toUInt64 >>> y).toInt64 = lN (a / p) := by
  subst hy hp
  have h : UInt64.ofNat a >>> UInt64.ofNat k = UInt64.ofNat (a / 2 ^ k) := UInt64.toNat_inj.mp (by rw [UInt64.toNat_shiftRight, u_tn ha, u_tn (by omega), u_tn (Nat.lt_of_le_of_lt (Nat.div_le_self _ _) ha), Nat.mod_eq_of_lt hk, Nat.shiftRight_eq_div_pow])
  have h2 := congrArg UInt64.toInt64 h
  exact h2
theorem g_shl {a k p : Nat} {y : Int64} (hy : y.toBitVec.smod 64 = BitVec.ofNat 64 k) (hk : k < 64) (hp : 2 ^ k = p) (ha : a < 2 ^ 64) : lN a <<< y = lN (a * p) := by
  subst hp
  apply Int64.toBitVec_inj.mp
  rw [Int64.toBitVec_shiftLeft, hy]
  apply BitVec.eq_of_toNat_eq
  have hb : (lN a).toBitVec.toNat = a := Nat.mod_eq_of_lt ha
  have hk' : (BitVec.ofNat 64 k).toNat = k := Nat.mod_eq_of_lt (by omega)
  have h : ((lN a).toBitVec <<< BitVec.ofNat 64 k).toNat = (a * 2 ^ k) % 2 ^ 64 := by simp only [BitVec.shiftLeft_eq', BitVec.toNat_shiftLeft, hb, hk', Nat.shiftLeft_eq]
  exact h
/-! ===== lN to 2^62 under >> and >>> ===== -/
theorem pf_lI {a : Nat} (h : a < 2 ^ 63) : (lN a).toInt = (a : Int) := lg_ofNat_toInt h
theorem pf_shr {a d : Nat} {D : Int64} (hD : (D.toBitVec.smod 64).toNat = d) (h : a < 2 ^ 62) : lN a >>> D = lN (a / 2 ^ d) := by
  have hd : a / 2 ^ d ≤ a := Nat.div_le_self _ _
  apply Int64.toInt_inj.mp
  have e : (lN a >>> D).toInt = (lN a).toInt >>> d := by
    rw [← hD]
    exact BitVec.toInt_sshiftRight ..
  rw [e, Int.shiftRight_eq_div_pow, pf_lI (by omega), pf_lI (by omega)]
  rfl
theorem pf_ushr {a d : Nat} {D : UInt64} (hD : D.toNat % 64 = d) (h : a < 2 ^ 62) : ((lN a).toUInt64 >>> D).toInt64 = lN (a / 2 ^ d) := by
  have hd : a / 2 ^ d ≤ a := Nat.div_le_self _ _
  have e : (lN a).toUInt64 >>> D = UInt64.ofNat (a / 2 ^ d) := UInt64.toNat_inj.mp (by
    rw [UInt64.toNat_shiftRight, hD, Nat.shiftRight_eq_div_pow, UInt64.toNat_ofNat']
    show (UInt64.ofNat a).toNat / 2 ^ d = _
    rw [UInt64.toNat_ofNat', Nat.mod_eq_of_lt (by omega), Nat.mod_eq_of_lt (by omega)])
  rw [e]
  rfl
theorem pf_andw (x : Int64) : ∃ m, m < 2 ^ 32 ∧ x &&& 4294967295 = lN m := ⟨x.toBitVec.toNat % 2 ^ 32, Nat.mod_lt _ (by decide), Int64.toBitVec_inj.mp (BitVec.eq_of_toNat_eq (by
  show (x.toBitVec &&& 4294967295#64).toNat = (BitVec.ofNat 64 (x.toBitVec.toNat % 2 ^ 32)).toNat
  rw [BitVec.toNat_and, show (4294967295#64).toNat = 2 ^ 32 - 1 from by decide, Nat.and_two_pow_sub_one_eq_mod, BitVec.toNat_ofNat]
  omega))⟩
/-! ===== Int64 as an unsigned number: uN x ===== -/
def uN (x : Int64) : Nat := x.toUInt64.toNat
theorem uN_lt (x : Int64) : uN x < 18446744073709551616 := x.toUInt64.toNat_lt
theorem uN_inj {x y : Int64} (h : uN x = uN y) : x = y := congrArg UInt64.toInt64 (UInt64.toNat_inj.mp h)
theorem uN_add (x y : Int64) : uN (x + y) = (uN x + uN y) % 18446744073709551616 := by
  show (x.toUInt64 + y.toUInt64).toNat = _
  exact UInt64.toNat_add _ _
theorem uN_mul (x y : Int64) : uN (x * y) = (uN x * uN y) % 18446744073709551616 := by
  show (x.toUInt64 * y.toUInt64).toNat = _
  exact UInt64.toNat_mul _ _
theorem uN_shl (x : Int64) : uN (x <<< ((1 : Int32).toInt64 &&& 63)) = (2 * uN x) % 18446744073709551616 := by
  have h : (((1 : Int32).toInt64 &&& 63).toBitVec.smod 64).toNat = 1 := by decide
  show (x.toBitVec <<< (((1 : Int32).toInt64 &&& 63).toBitVec.smod 64).toNat).toNat = _
  rw [h, BitVec.toNat_shiftLeft, Nat.shiftLeft_eq, Nat.mul_comm]
  rfl
theorem uN_shr (x : Int64) (s : UInt64) : uN (x.toUInt64 >>> s).toInt64 = uN x / 2 ^ (s.toNat % 64) := by
  show (x.toUInt64 >>> s).toNat = _
  rw [UInt64.toNat_shiftRight, Nat.shiftRight_eq_div_pow]
  rfl
theorem uN_s32 (x : Int64) : uN (x.toUInt64 >>> ((32 : Int32).toInt64.toUInt64 &&& Int64.toUInt64 63)).toInt64 = uN x / 4294967296 := by
  have h : ((32 : Int32).toInt64.toUInt64 &&& Int64.toUInt64 63).toNat % 64 = 32 := by decide
  rw [uN_shr, h]
theorem uN_s63 (x : Int64) : uN (x.toUInt64 >>> ((63 : Int32).toInt64.toUInt64 &&& Int64.toUInt64 63)).toInt64 = uN x / 9223372036854775808 := by
  have h : ((63 : Int32).toInt64.toUInt64 &&& Int64.toUInt64 63).toNat % 64 = 63 := by decide
  rw [uN_shr, h]
theorem uN_lo (x : Int64) : uN (x &&& 4294967295) = uN x % 4294967296 := by
  show (x.toUInt64 &&& Int64.toUInt64 4294967295).toNat = _
  rw [UInt64.toNat_and]
  exact Nat.and_two_pow_sub_one_eq_mod _ 32
theorem uN_bit (x : Int64) : (x &&& 1) = 0 ↔ uN x % 2 = 0 := by
  have h : uN (x &&& 1) = uN x % 2 := by
    show (x.toUInt64 &&& Int64.toUInt64 1).toNat = _
    rw [UInt64.toNat_and]
    exact Nat.and_two_pow_sub_one_eq_mod _ 1
  rw [← h]
  exact ⟨fun z => by rw [z]; rfl, fun z => uN_inj (z.trans rfl)⟩
theorem uN_or {x y : Int64} (hy : uN y < 2) : uN ((x <<< ((1 : Int32).toInt64 &&& 63)) ||| y) = (2 * uN x) % 18446744073709551616 + uN y := by
  have h1 : uN ((x <<< ((1 : Int32).toInt64 &&& 63)) ||| y) = uN (x <<< ((1 : Int32).toInt64 &&& 63)) ||| uN y := UInt64.toNat_or _ _
  have h2 : (2 * uN x) % 18446744073709551616 = 2 ^ 1 * (uN x % 9223372036854775808) := by omega
  rw [h1, uN_shl, h2]
  exact (Nat.two_pow_add_eq_or_of_lt (i := 1) hy _).symm
theorem nat_xor {a : Nat} (h : a < 18446744073709551616) : a ^^^ 2 ^ 63 = (a + 9223372036854775808) % 18446744073709551616 := by
  have h1 : (a ^^^ 2 ^ 63) % 2 ^ 63 = a % 2 ^ 63 := by rw [Nat.xor_mod_two_pow, Nat.mod_self, Nat.xor_zero]
  have h2 : (a ^^^ 2 ^ 63) / 2 ^ 63 = (a / 2 ^ 63) ^^^ 1 := by rw [Nat.xor_div_two_pow, Nat.div_self (Nat.two_pow_pos 63)]
  have h3 : a / 2 ^ 63 = 0 ∨ a / 2 ^ 63 = 1 := by omega
  generalize a ^^^ 2 ^ 63 = t at h1 h2
  rcases h3 with h3 | h3
  · rw [h3] at h2
    have h2 : t / 2 ^ 63 = 1 := h2
    omega
  · rw [h3] at h2
    have h2 : t / 2 ^ 63 = 0 := h2
    omega
theorem uN_xor (x : Int64) : uN (x ^^^ (-9223372036854775808)) = (uN x + 9223372036854775808) % 18446744073709551616 := by
  rw [← nat_xor (uN_lt x)]
  exact UInt64.toNat_xor _ _
theorem uN_int (x : Int64) : x.toInt = if 2 * uN x < 18446744073709551616 then (uN x : Int) else (uN x : Int) - 18446744073709551616 := BitVec.toInt_eq_toNat_cond _
theorem uN_le (x y : Int64) : (x ^^^ (-9223372036854775808)) ≤ (y ^^^ (-9223372036854775808)) ↔ uN x ≤ uN y := by
  have hx := uN_lt x
  have hy := uN_lt y
  rw [Int64.le_iff_toInt_le, uN_int, uN_int, uN_xor, uN_xor]
  omega
theorem uN_sk (x : Int64) {k : Nat} (hk : k < 64) : uN (x.toUInt64 >>> ((nI k).toInt64.toUInt64 &&& Int64.toUInt64 63)).toInt64 = uN x / 2 ^ k := by
  have h : ((nI k).toInt64.toUInt64 &&& Int64.toUInt64 63).toNat % 64 = k := by
    rw [nI_l (by omega), UInt64.toNat_and]
    have e : (lN k).toUInt64.toNat = k % 2 ^ 64 := rfl
    have e2 : (Int64.toUInt64 63).toNat = 2 ^ 6 - 1 := by decide
    rw [e, e2, Nat.and_two_pow_sub_one_eq_mod]
    omega
  rw [uN_shr, h]
/-! ===== unsigned comparison by xor with the least ===== -/
theorem lN_bv (n : Nat) : (lN n).toBitVec = BitVec.ofNat 64 n := rfl
theorem lN_nat {n : Nat} (h : n < 2 ^ 64) : (lN n).toBitVec.toNat = n := by rw [lN_bv, BitVec.toNat_ofNat]; exact Nat.mod_eq_of_lt h
theorem lN_xor (a b : Nat) : lN a ^^^ lN b = lN (a ^^^ b) := by
  apply Int64.toBitVec_inj.mp; rw [Int64.toBitVec_xor, lN_bv, lN_bv, lN_bv]; apply BitVec.eq_of_getLsbD_eq; intro i hi; simp [BitVec.getLsbD_ofNat, Nat.testBit_xor, hi]
theorem lN_ti {m : Nat} (h : m < 2 ^ 64) : (lN m).toInt = if m < 2 ^ 63 then (m : Int) else (m : Int) - 2 ^ 64 := by
  have c := BitVec.toInt_eq_toNat_cond (lN m).toBitVec
  rw [lN_nat h] at c
  show (lN m).toBitVec.toInt = _
  rw [c]
  split <;> split <;> omega
theorem xor63 {x : Nat} (h : x < 2 ^ 63) : x ^^^ 2 ^ 63 = 2 ^ 63 + x := by
  apply Nat.eq_of_testBit_eq
  intro i
  rw [Nat.testBit_xor, Nat.testBit_two_pow]
  rcases Nat.lt_trichotomy i 63 with z | z | z
  · rw [Nat.testBit_two_pow_add_gt z, decide_eq_false (by omega)]; simp
  · subst z; rw [Nat.testBit_two_pow_add_eq]; simp
  · have hp : 2 ^ 64 ≤ 2 ^ i := Nat.pow_le_pow_right (by decide) z
    rw [Nat.testBit_lt_two_pow (show x < 2 ^ i by omega), Nat.testBit_lt_two_pow (show 2 ^ 63 + x < 2 ^ i by omega), decide_eq_false (by omega)]; rfl
theorem xorS {a : Nat} (h : a < 2 ^ 64) : (lN a ^^^ (-9223372036854775808)).toInt = (a : Int) - 2 ^ 63 := by
  rw [show (-9223372036854775808 : Int64) = lN (2 ^ 63) from by decide +kernel, lN_xor]
  rcases Nat.lt_or_ge a (2 ^ 63) with z | z
  · rw [xor63 z, lN_ti (by omega), if_neg (by omega)]; omega
  · obtain ⟨x, rfl⟩ : ∃ x, a = 2 ^ 63 + x := ⟨a - 2 ^ 63, by omega⟩
    rw [← xor63 (by omega), Nat.xor_assoc, Nat.xor_self, Nat.xor_zero, lN_ti (by omega), if_pos (by omega), xor63 (by omega)]; omega
theorem ultL {a b : Nat} (ha : a < 2 ^ 64) (hb : b < 2 ^ 64) : ((lN b ^^^ (-9223372036854775808)) ≤ (lN a ^^^ (-9223372036854775808))) ↔ b ≤ a := by
  rw [Int64.le_iff_toInt_le, xorS ha, xorS hb]; omega
/-! ===== Int64 masks of n low bits ===== -/
theorem cr_bits (W U M : BitVec 64) : ((W &&& U) &&& (U &&& (M ^^^ BitVec.allOnes 64))) = 0#64 ↔ (W &&& U) &&& M = W &&& U := by
  constructor
  · intro h
    apply BitVec.eq_of_getLsbD_eq
    intro i hi
    have e := congrArg (fun x => BitVec.getLsbD x i) h
    simp only [BitVec.getLsbD_and, BitVec.getLsbD_xor, BitVec.getLsbD_allOnes, BitVec.getLsbD_zero, hi, decide_true] at e ⊢
    revert e
    cases W.getLsbD i <;> cases U.getLsbD i <;> cases M.getLsbD i <;> decide
  · intro h
    apply BitVec.eq_of_getLsbD_eq
    intro i hi
    have e := congrArg (fun x => BitVec.getLsbD x i) h
    simp only [BitVec.getLsbD_and, BitVec.getLsbD_xor, BitVec.getLsbD_allOnes, BitVec.getLsbD_zero, hi, decide_true] at e ⊢
    revert e
    cases W.getLsbD i <;> cases U.getLsbD i <;> cases M.getLsbD i <;> decide
theorem cr_mask (w U m : Int64) (n : Nat) (hm : m.toBitVec.toNat = 2 ^ n - 1) : ((w &&& U) &&& (U &&& (m ^^^ (-1)))) = 0 ↔ (w &&& U).toBitVec.toNat < 2 ^ n := by
  have e0 : (-1 : Int64).toBitVec = BitVec.allOnes 64 := by decide
  have z0 : (0 : Int64).toBitVec = 0#64 := by decide
  rw [← Int64.toBitVec_inj, z0, Int64.toBitVec_and, Int64.toBitVec_and, Int64.toBitVec_and, Int64.toBitVec_xor, e0, cr_bits]
  generalize w.toBitVec &&& U.toBitVec = T
  rw [← BitVec.toNat_inj, BitVec.toNat_and, hm, Nat.and_two_pow_sub_one_eq_mod]
  constructor
  · intro h
    have t := Nat.mod_lt T.toNat (Nat.two_pow_pos n)
    rw [h] at t
    exact t
  · exact Nat.mod_eq_of_lt
theorem cr_shr (t : Int64) (x : UInt64) (n : Nat) (hx : x.toNat % 64 = n) : (t.toUInt64 >>> x).toInt64 = 0 ↔ t.toBitVec.toNat < 2 ^ n := by
  rw [← Int64.toBitVec_inj, ← BitVec.toNat_inj]
  show (t.toUInt64 >>> x).toNat = 0 ↔ t.toUInt64.toNat < 2 ^ n
  rw [UInt64.toNat_shiftRight, hx, Nat.shiftRight_eq_div_pow]
  constructor
  · intro h
    have d : t.toUInt64.toNat / 2 ^ n < 1 := by
      rw [h]
      decide
    have e := (Nat.div_lt_iff_lt_mul (Nat.two_pow_pos n)).mp d
    rw [Nat.one_mul] at e
    exact e
  · exact Nat.div_eq_of_lt
theorem cr_amt (s : Int64) : ∃ n, n < 64 ∧ s &&& 63 = lN n ∧ (s.toUInt64 &&& Int64.toUInt64 63).toNat % 64 = n := by
  have e : (s.toUInt64 &&& Int64.toUInt64 63).toNat = s.toUInt64.toNat % 2 ^ 6 := by
    rw [UInt64.toNat_and, show (Int64.toUInt64 63).toNat = 2 ^ 6 - 1 from by decide, Nat.and_two_pow_sub_one_eq_mod]
  refine ⟨s.toUInt64.toNat % 2 ^ 6, by omega, ?_, by omega⟩
  rw [← Int64.toBitVec_inj, ← BitVec.toNat_inj]
  show (s.toUInt64 &&& Int64.toUInt64 63).toNat = (BitVec.ofNat 64 (s.toUInt64.toNat % 2 ^ 6)).toNat
  rw [e, BitVec.toNat_ofNat]
  omega
end
section
theorem cs_odd (x : Int32) : (x &&& 1) = 1 ↔ bt x 0 = true := by
  rw [pk_and x 1 (by decide)]
  show _ ↔ x.toBitVec.toNat.testBit 0 = true
  rw [Nat.testBit_zero, show (1 : Int32) = nI 1 from rfl, nI_eq (by omega) (by decide)]
  simp
/-- one step of the check number -/
def cs_f (x : Int32) : Int32 := ((x.toUInt32 >>> ((1 : Int32).toUInt32 &&& Int32.toUInt32 31)).toInt32) ^^^ (if bt x 0 = true then -306674912 else 0)
theorem cs_fb (x : Int32) (i : Nat) : bt (cs_f x) i = (bt x (1 + i) ^^ (bt x 0 && bt (-306674912) i)) := by
  unfold cs_f
  rw [b_xor]
  have h := b_ushr 1 (by decide) x i
  rw [show nI 1 = (1 : Int32) from rfl] at h
  rw [h]
  cases bt x 0
  · rw [if_neg (by decide), b_0, Bool.false_and]
  · rw [if_pos rfl, Bool.true_and]
theorem cs_lin (x y : Int32) : cs_f (x ^^^ y) = cs_f x ^^^ cs_f y := b_ext fun i _ => by
  rw [b_xor, cs_fb, cs_fb, cs_fb, b_xor, b_xor]
  cases bt x (1 + i) <;> cases bt y (1 + i) <;> cases bt x 0 <;> cases bt y 0 <;> cases bt (-306674912) i <;> rfl
def cs_it : Nat → Int32 → Int32
  | 0, x => x
  | n + 1, x => cs_it n (cs_f x)
theorem cs_it_lin : ∀ (n : Nat) (x y : Int32), cs_it n (x ^^^ y) = cs_it n x ^^^ cs_it n y := by
  intro n
  induction n with
  | zero => intro x y; rfl
  | succ n ih => intro x y; show cs_it n (cs_f (x ^^^ y)) = cs_it n (cs_f x) ^^^ cs_it n (cs_f y); rw [cs_lin, ih]
theorem cs_it_0 : ∀ n : Nat, cs_it n 0 = 0 := by
  intro n
  induction n with
  | zero => rfl
  | succ n ih => show cs_it n (cs_f 0) = 0; rw [show cs_f 0 = 0 from by decide, ih]
theorem cs_it_add : ∀ (a b : Nat) (x : Int32), cs_it (a + b) x = cs_it b (cs_it a x) := by
  intro a
  induction a with
  | zero => intro b x; rw [Nat.zero_add]; rfl
  | succ a ih => intro b x; rw [Nat.succ_add]; show cs_it (a + b) (cs_f x) = cs_it b (cs_it a (cs_f x)); rw [ih]
theorem cs_ac (a b c d : Int32) : (a ^^^ b) ^^^ (c ^^^ d) = (a ^^^ c) ^^^ (b ^^^ d) := b_ext fun i _ => by
  simp only [b_xor]
  cases bt a i <;> cases bt b i <;> cases bt c i <;> cases bt d i <;> rfl
theorem cs_x0 (a : Int32) : a ^^^ 0 = a := b_ext fun i _ => by rw [b_xor, b_0, Bool.xor_false]
theorem cs_0x (a : Int32) : 0 ^^^ a = a := b_ext fun i _ => by rw [b_xor, b_0, Bool.false_xor]
theorem cs_xx (a : Int32) : a ^^^ a = 0 := b_ext fun i _ => by rw [b_xor, b_0, Bool.xor_self]
theorem cs_xeq {a b : Int32} (h : a ^^^ b = 0) : a = b := b_ext fun i _ => by
  have := congrArg (fun z => bt z i) h
  simp only [b_xor, b_0] at this
  revert this
  cases bt a i <;> cases bt b i <;> simp
theorem cs_xxx (a b : Int32) : (a ^^^ b) ^^^ b = a := b_ext fun i _ => by
  simp only [b_xor]
  cases bt a i <;> cases bt b i <;> rfl
/-- feeding the bytes g 0 .. g (n - 1) into s -/
def cs_fo (s : Int32) (g : Nat → Int32) : Nat → Int32
  | 0 => s
  | n + 1 => cs_it 8 (cs_fo s g n ^^^ g n)
theorem cs_fo_lin (s s' : Int32) (g g' : Nat → Int32) (n : Nat) : cs_fo (s ^^^ s') (fun i => g i ^^^ g' i) n = cs_fo s g n ^^^ cs_fo s' g' n := by
  induction n with
  | zero => rfl
  | succ n ih => show cs_it 8 (cs_fo (s ^^^ s') (fun i => g i ^^^ g' i) n ^^^ (g n ^^^ g' n)) = cs_it 8 (cs_fo s g n ^^^ g n) ^^^ cs_it 8 (cs_fo s' g' n ^^^ g' n); rw [ih, cs_ac, cs_it_lin]
theorem cs_fo_cg (s : Int32) {g g' : Nat → Int32} (n : Nat) (h : ∀ i, i < n → g i = g' i) : cs_fo s g n = cs_fo s g' n := by
  induction n with
  | zero => rfl
  | succ n ih => show cs_it 8 (cs_fo s g n ^^^ g n) = cs_it 8 (cs_fo s g' n ^^^ g' n); rw [ih (fun i hi => h i (by omega)), h n (by omega)]
theorem cs_fo_add (s : Int32) (g : Nat → Int32) (a b : Nat) : cs_fo s g (a + b) = cs_fo (cs_fo s g a) (fun i => g (a + i)) b := by
  induction b with
  | zero => rfl
  | succ b ih => show cs_it 8 (cs_fo s g (a + b) ^^^ g (a + b)) = cs_it 8 (cs_fo (cs_fo s g a) (fun i => g (a + i)) b ^^^ g (a + b)); rw [ih]
theorem cs_fo_z (s : Int32) (n : Nat) : cs_fo s (fun _ => 0) n = cs_it (8 * n) s := by
  induction n with
  | zero => rfl
  | succ n ih => show cs_it 8 (cs_fo s (fun _ => 0) n ^^^ 0) = cs_it (8 * n + 8) s; rw [ih, cs_x0, cs_it_add]
/-- the turned bit e of a cell (64: none), as a byte at i -/
def cs_er (e i : Nat) : Int32 := if i = e / 8 then nI (2 ^ (e % 8)) else 0
/-- the four bytes from lo as a number -/
def cs_su (g : Nat → Int32) (lo : Nat) : Nat → Int32
  | 0 => 0
  | n + 1 => (cs_su g lo n <<< ((8 : Int32) &&& 31)) ||| g (lo + n)
theorem cs_su_cg {g g' : Nat → Int32} {lo lo' : Nat} (n : Nat) (h : ∀ i, i < n → g (lo + i) = g' (lo' + i)) : cs_su g lo n = cs_su g' lo' n := by
  induction n with
  | zero => rfl
  | succ n ih => show (cs_su g lo n <<< ((8 : Int32) &&& 31)) ||| g (lo + n) = (cs_su g' lo' n <<< ((8 : Int32) &&& 31)) ||| g' (lo' + n); rw [ih (fun i hi => h i (by omega)), h n (by omega)]
theorem cs_fo_s (s : Int32) (e n : Nat) : cs_fo s (cs_er e) n = cs_it (8 * n) s ^^^ cs_fo 0 (cs_er e) n := by
  have h := cs_fo_lin s 0 (fun _ => 0) (cs_er e) n
  rw [cs_fo_z] at h
  rw [← h, cs_x0]
  exact cs_fo_cg s n (fun i _ => (cs_0x _).symm)
def cs_KA : List Nat := [3433693342, 1109723005, 2219446010, 3555007413, 2092642603, 4185285206, 698204909, 1396409818, 2792819636, 2543784233, 4098827283, 871321191, 1742642382, 3485284764, 1141601657, 2283203314, 3411858341, 1304994059, 2609988118, 3964895853, 64357019, 128714038, 257428076, 514856152, 1029712304, 2059424608, 4118849216, 812665793, 1625331586, 3250663172, 1492342857, 2984685714, 3099354981, 2852767883, 2405603159, 3316918511, 1343838111, 2687676222, 2601801789, 3982079547, 29518391, 59036782, 118073564, 236147128, 472294256, 944588512, 1889177024, 3778354048, 421212481, 842424962, 1684849924, 3369699848, 1254232657, 2508465314, 4034481925, 998479947, 1996959894, 3993919788, 124634137, 249268274, 498536548, 997073096, 1994146192, 3988292384, 0]
def cs_K0 : List Nat := [3099354981, 2852767883, 2405603159, 3316918511, 1343838111, 2687676222, 2601801789, 3982079547, 29518391, 59036782, 118073564, 236147128, 472294256, 944588512, 1889177024, 3778354048, 421212481, 842424962, 1684849924, 3369699848, 1254232657, 2508465314, 4034481925, 998479947, 1996959894, 3993919788, 124634137, 249268274, 498536548, 997073096, 1994146192, 3988292384, 16777216, 33554432, 67108864, 134217728, 268435456, 536870912, 1073741824, 2147483648, 65536, 131072, 262144, 524288, 1048576, 2097152, 4194304, 8388608, 256, 512, 1024, 2048, 4096, 8192, 16384, 32768, 1, 2, 4, 8, 16, 32, 64, 128, 0]
def cs_K1 : List Nat := [2611301487, 3963330207, 50740095, 101480190, 202960380, 405920760, 811841520, 1623683040, 3247366080, 1483520449, 2967040898, 3133399365, 2935407819, 2258407383, 3595049455, 2011248031, 4022496062, 83218493, 166436986, 332873972, 665747944, 1331495888, 2662991776, 3859089665, 393942083, 787884166, 1575768332, 3151536664, 2898281073, 2196865699, 3734110983, 1716846671, 3433693342, 1109723005, 2219446010, 3555007413, 2092642603, 4185285206, 698204909, 1396409818, 2792819636, 2543784233, 4098827283, 871321191, 1742642382, 3485284764, 1141601657, 2283203314, 3411858341, 1304994059, 2609988118, 3964895853, 64357019, 128714038, 257428076, 514856152, 1029712304, 2059424608, 4118849216, 812665793, 1625331586, 3250663172, 1492342857, 2984685714, 0]
def cs_K2 : List Nat := [1701264198, 3402528396, 1324215129, 2648430258, 3771116325, 452743179, 905486358, 1810972716, 3621945432, 1957955313, 3915910626, 161553797, 323107594, 646215188, 1292430376, 2584860752, 4015175393, 97807235, 195614470, 391228940, 782457880, 1564915760, 3129831520, 2926306945, 2275855171, 3560739015, 1929914319, 3859828638, 391223677, 782447354, 1564894708, 3129789416, 2926088593, 2275419491, 3560000647, 1930665807, 3861331614, 390036349, 780072698, 1560145396, 3120290792, 2827399569, 2323408227, 3481914503, 1147313999, 2294627998, 3405478781, 1317531835, 2635063670, 3782132909, 430739227, 861478454, 1722956908, 3445913816, 1102706673, 2205413346, 3717650821, 1616688459, 3233376918, 1510200173, 3020400346, 3011398645, 3180171691, 2691310871, 0]
def cs_K3 : List Nat := [28704029, 57408058, 114816116, 229632232, 459264464, 918528928, 1837057856, 3674115712, 1854675777, 3709351554, 1631677253, 3263354506, 1584704341, 3169408682, 2728635157, 2654359659, 3877480087, 357190511, 714381022, 1428762044, 2857524088, 2413146289, 3302647587, 1388693511, 2777387022, 2422613597, 4223486715, 738956215, 1477912430, 2955824860, 3140328441, 2905223603, 2166711591, 3644574735, 1762041439, 3524082878, 2137751357, 4275502714, 652016309, 1304032618, 2608065236, 3986084841, 6070675, 12141350, 24282700, 48565400, 97130800, 194261600, 388523200, 777046400, 1554092800, 3108185600, 2851555905, 2292159171, 3394118599, 1340948943, 2681897886, 3838050685, 318309563, 636619126, 1273238252, 2546476504, 4108406257, 850632099, 0]
theorem cs_kA : ∀ e, e < 65 → cs_fo 0 (cs_er e) 8 = nI (cs_KA.getD e 0) := by decide +kernel
theorem cs_k0 : ∀ e, e < 65 → cs_fo 0 (cs_er e) 4 ^^^ cs_su (cs_er e) 4 4 = nI (cs_K0.getD e 0) := by decide +kernel
theorem cs_k1 : ∀ e, e < 65 → cs_it 32 (nI (cs_KA.getD e 0)) = nI (cs_K1.getD e 0) := by decide +kernel
theorem cs_k2 : ∀ e, e < 65 → cs_it 32 (cs_it 64 (nI (cs_KA.getD e 0))) = nI (cs_K2.getD e 0) := by decide +kernel
theorem cs_k3 : ∀ e, e < 65 → cs_it 32 (cs_it 64 (cs_it 64 (nI (cs_KA.getD e 0)))) = nI (cs_K3.getD e 0) := by decide +kernel
theorem cs_kb : (cs_K0.all (fun x => decide (x < 4294967296)) && cs_K1.all (fun x => decide (x < 4294967296)) && cs_K2.all (fun x => decide (x < 4294967296)) && cs_K3.all (fun x => decide (x < 4294967296))) = true := by decide +kernel
end
section
def ck_tb (n x : Nat) : Bool := Nat.beq (Nat.land (Nat.shiftRight x n) 1) 1
def ck_ch : Nat → List Nat → List Nat → Bool
  | 0, U, V => U.isEmpty || V.isEmpty
  | n + 1, U, V => U.isEmpty || (V.isEmpty || (ck_ch n (U.filter (ck_tb n)) (V.filter (ck_tb n)) && ck_ch n (U.filter (fun x => !ck_tb n x)) (V.filter (fun x => !ck_tb n x))))
theorem ck_ne : ∀ (n : Nat) (U V : List Nat), ck_ch n U V = true → ∀ u, u ∈ U → u ∈ V → False := by
  intro n
  induction n with
  | zero =>
    intro U V h u hu hv
    have h' : (U.isEmpty || V.isEmpty) = true := h
    rcases Bool.or_eq_true_iff.mp h' with z | z
    · rw [List.isEmpty_iff.mp z] at hu; cases hu
    · rw [List.isEmpty_iff.mp z] at hv; cases hv
  | succ n ih =>
    intro U V h u hu hv
    have h' : (U.isEmpty || (V.isEmpty || (ck_ch n (U.filter (ck_tb n)) (V.filter (ck_tb n)) && ck_ch n (U.filter (fun x => !ck_tb n x)) (V.filter (fun x => !ck_tb n x))))) = true := h
    rcases Bool.or_eq_true_iff.mp h' with z | z
    · rw [List.isEmpty_iff.mp z] at hu; cases hu
    rcases Bool.or_eq_true_iff.mp z with z | z
    · rw [List.isEmpty_iff.mp z] at hv; cases hv
    have ⟨z1, z2⟩ := Bool.and_eq_true_iff.mp z
    cases hb : ck_tb n u with
    | true => exact ih _ _ z1 u (List.mem_filter.mpr ⟨hu, hb⟩) (List.mem_filter.mpr ⟨hv, hb⟩)
    | false => exact ih _ _ z2 u (List.mem_filter.mpr ⟨hu, by rw [hb]; rfl⟩) (List.mem_filter.mpr ⟨hv, by rw [hb]; rfl⟩)
def ck_pr (A B : List Nat) : List Nat := A.flatMap (fun x => B.map (fun y => Nat.xor x y))
theorem ck_mp {A B : List Nat} {x y : Nat} (hx : x ∈ A) (hy : y ∈ B) : (x ^^^ y) ∈ ck_pr A B :=
  List.mem_flatMap.mpr ⟨x, hx, List.mem_map.mpr ⟨y, hy, rfl⟩⟩
set_option maxRecDepth 100000 in
theorem ck_A : ck_ch 32 (ck_pr (cs_K0.take 64) cs_K1 ++ cs_K1.take 64) (ck_pr cs_K2 cs_K3) = true := by decide +kernel
set_option maxRecDepth 100000 in
theorem ck_B : ck_ch 32 [0] (ck_pr (cs_K2.take 64) cs_K3 ++ cs_K3.take 64) = true := by decide +kernel
theorem ck_m0 : ∀ e, e < 65 → cs_K0.getD e 0 ∈ cs_K0 := by decide +kernel
theorem ck_m1 : ∀ e, e < 65 → cs_K1.getD e 0 ∈ cs_K1 := by decide +kernel
theorem ck_m2 : ∀ e, e < 65 → cs_K2.getD e 0 ∈ cs_K2 := by decide +kernel
theorem ck_m3 : ∀ e, e < 65 → cs_K3.getD e 0 ∈ cs_K3 := by decide +kernel
theorem ck_t0 : ∀ e, e < 64 → cs_K0.getD e 0 ∈ cs_K0.take 64 := by decide +kernel
theorem ck_t1 : ∀ e, e < 64 → cs_K1.getD e 0 ∈ cs_K1.take 64 := by decide +kernel
theorem ck_t2 : ∀ e, e < 64 → cs_K2.getD e 0 ∈ cs_K2.take 64 := by decide +kernel
theorem ck_t3 : ∀ e, e < 64 → cs_K3.getD e 0 ∈ cs_K3.take 64 := by decide +kernel
theorem ck_b0 : ∀ e, e < 65 → cs_K0.getD e 0 < 4294967296 := by decide +kernel
theorem ck_b1 : ∀ e, e < 65 → cs_K1.getD e 0 < 4294967296 := by decide +kernel
theorem ck_b2 : ∀ e, e < 65 → cs_K2.getD e 0 < 4294967296 := by decide +kernel
theorem ck_b3 : ∀ e, e < 65 → cs_K3.getD e 0 < 4294967296 := by decide +kernel
theorem ck_4 {a b c d : Nat} (ha : a ≤ 64) (hb : b ≤ 64) (hc : c ≤ 64) (hd : d ≤ 64)
    (h : cs_K0.getD a 0 ^^^ cs_K1.getD b 0 = cs_K2.getD c 0 ^^^ cs_K3.getD d 0) : a = 64 ∧ b = 64 ∧ c = 64 ∧ d = 64 := by
  have hV : (cs_K2.getD c 0 ^^^ cs_K3.getD d 0) ∈ ck_pr cs_K2 cs_K3 := ck_mp (ck_m2 c (by omega)) (ck_m3 d (by omega))
  by_cases h1 : a < 64
  · have hU : (cs_K0.getD a 0 ^^^ cs_K1.getD b 0) ∈ ck_pr (cs_K0.take 64) cs_K1 ++ cs_K1.take 64 := List.mem_append_left _ (ck_mp (ck_t0 a h1) (ck_m1 b (by omega)))
    exact (ck_ne _ _ _ ck_A _ hU (h ▸ hV)).elim
  obtain rfl : a = 64 := by omega
  have e0 : cs_K0.getD 64 0 = 0 := by decide
  have e1 : cs_K1.getD 64 0 = 0 := by decide
  have e2 : cs_K2.getD 64 0 = 0 := by decide
  have e3 : cs_K3.getD 64 0 = 0 := by decide
  rw [e0, Nat.zero_xor] at h
  by_cases h2 : b < 64
  · have hU : cs_K1.getD b 0 ∈ ck_pr (cs_K0.take 64) cs_K1 ++ cs_K1.take 64 := List.mem_append_right _ (ck_t1 b h2)
    exact (ck_ne _ _ _ ck_A _ hU (h ▸ hV)).elim
  obtain rfl : b = 64 := by omega
  rw [e1] at h
  have h0 : (0 : Nat) ∈ [0] := List.mem_singleton.mpr rfl
  by_cases h3 : c < 64
  · have hW : (cs_K2.getD c 0 ^^^ cs_K3.getD d 0) ∈ ck_pr (cs_K2.take 64) cs_K3 ++ cs_K3.take 64 := List.mem_append_left _ (ck_mp (ck_t2 c h3) (ck_m3 d (by omega)))
    rw [← h] at hW
    exact (ck_ne _ _ _ ck_B _ h0 hW).elim
  obtain rfl : c = 64 := by omega
  rw [e2, Nat.zero_xor] at h
  by_cases h4 : d < 64
  · have hW : cs_K3.getD d 0 ∈ ck_pr (cs_K2.take 64) cs_K3 ++ cs_K3.take 64 := List.mem_append_right _ (ck_t3 d h4)
    rw [← h] at hW
    exact (ck_ne _ _ _ ck_B _ h0 hW).elim
  exact ⟨rfl, rfl, rfl, by omega⟩
theorem ck_nI {a b : Nat} (ha : a < 4294967296) (hb : b < 4294967296) (h : nI a = nI b) : a = b := by
  have h2 : (nI a).toBitVec.toNat = (nI b).toBitVec.toNat := by rw [h]
  rwa [pk_tn ha, pk_tn hb] at h2
theorem ck_xl {a b : Nat} (ha : a < 4294967296) (hb : b < 4294967296) : a ^^^ b < 4294967296 := Nat.xor_lt_two_pow (n := 32) ha hb
/-- four turned bits, one a cell, are always seen -/
theorem ck_I {a b c d : Nat} (ha : a ≤ 64) (hb : b ≤ 64) (hc : c ≤ 64) (hd : d ≤ 64)
    (h : ((nI (cs_K3.getD d 0) ^^^ nI (cs_K2.getD c 0)) ^^^ nI (cs_K1.getD b 0)) ^^^ nI (cs_K0.getD a 0) = 0) : a = 64 ∧ b = 64 ∧ c = 64 ∧ d = 64 := by
  have b0 := ck_b0 a (by omega)
  have b1 := ck_b1 b (by omega)
  have b2 := ck_b2 c (by omega)
  have b3 := ck_b3 d (by omega)
  apply ck_4 ha hb hc hd
  have h' : (nI (cs_K0.getD a 0) ^^^ nI (cs_K1.getD b 0)) ^^^ (nI (cs_K2.getD c 0) ^^^ nI (cs_K3.getD d 0)) = 0 := by
    rw [← h]
    refine b_ext fun i _ => ?_
    simp only [b_xor]
    cases bt (nI (cs_K0.getD a 0)) i <;> cases bt (nI (cs_K1.getD b 0)) i <;> cases bt (nI (cs_K2.getD c 0)) i <;> cases bt (nI (cs_K3.getD d 0)) i <;> rfl
  have h2 := cs_xeq h'
  rw [nx_xor, nx_xor] at h2
  exact ck_nI (ck_xl b0 b1) (ck_xl b2 b3) h2
end
section
/-- a byte -/
def cd_B (x : Int32) : Prop := ∃ n, n < 256 ∧ x = nI n
theorem cd_Bn {n : Nat} (h : n < 256) : cd_B (nI n) := ⟨n, h, rfl⟩
theorem cd_B0 : cd_B 0 := ⟨0, by decide, rfl⟩
theorem cd_Bx {x y : Int32} (hx : cd_B x) (hy : cd_B y) : cd_B (x ^^^ y) := by
  obtain ⟨n, hn, rfl⟩ := hx
  obtain ⟨m, hm, rfl⟩ := hy
  exact ⟨n ^^^ m, Nat.xor_lt_two_pow (n := 8) hn hm, nx_xor n m⟩
theorem cd_Ba (x : Int32) : cd_B (x &&& 255) := by
  obtain ⟨j, hj, e⟩ := pk_andE x (m := 255) 8 (by decide)
  exact ⟨j, hj, e⟩
theorem cd_Bb {x : Int32} (hx : cd_B x) {i : Nat} (hi : 8 ≤ i) : bt x i = false := by
  obtain ⟨n, hn, rfl⟩ := hx
  show (nI n).toBitVec.toNat.testBit i = false
  rw [pk_tn (by omega)]
  exact Nat.testBit_lt_two_pow (Nat.lt_of_lt_of_le hn (Nat.pow_le_pow_right (n := 2) (by decide) hi))
theorem cd_Be (e i : Nat) : cd_B (cs_er e i) := by
  unfold cs_er
  split
  · exact cd_Bn (Nat.pow_lt_pow_right (by decide) (Nat.mod_lt e (by decide)))
  · exact cd_B0
theorem cd_st (x : Int32) {y : Int32} (hy : cd_B y) {i : Nat} (hi : i < 32) : bt ((x <<< ((8 : Int32) &&& 31)) ||| y) i = if i < 8 then bt y i else bt x (i - 8) := by
  rw [b_or, b_shl8 x hi]
  by_cases h : i < 8
  · rw [if_pos h, decide_eq_false (by omega), Bool.false_and, Bool.false_or]
  · rw [if_neg h, decide_eq_true (by omega), Bool.true_and, cd_Bb hy (by omega), Bool.or_false]
theorem cd_sl (x x' : Int32) {y y' : Int32} (hy : cd_B y) (hy' : cd_B y') : ((x ^^^ x') <<< ((8 : Int32) &&& 31)) ||| (y ^^^ y') = ((x <<< ((8 : Int32) &&& 31)) ||| y) ^^^ ((x' <<< ((8 : Int32) &&& 31)) ||| y') := b_ext fun i hi => by
  rw [b_xor, cd_st _ hy hi, cd_st _ hy' hi, cd_st _ (cd_Bx hy hy') hi]
  split <;> rw [b_xor]
theorem cd_su_lin (g g' : Nat → Int32) (lo n : Nat) (h : ∀ i, i < n → cd_B (g (lo + i))) (h' : ∀ i, i < n → cd_B (g' (lo + i))) : cs_su (fun i => g i ^^^ g' i) lo n = cs_su g lo n ^^^ cs_su g' lo n := by
  induction n with
  | zero => exact (cs_x0 0).symm
  | succ n ih =>
    show (cs_su (fun i => g i ^^^ g' i) lo n <<< ((8 : Int32) &&& 31)) ||| (g (lo + n) ^^^ g' (lo + n)) = ((cs_su g lo n <<< ((8 : Int32) &&& 31)) ||| g (lo + n)) ^^^ ((cs_su g' lo n <<< ((8 : Int32) &&& 31)) ||| g' (lo + n))
    rw [ih (fun i hi => h i (by omega)) (fun i hi => h' i (by omega)), cd_sl _ _ (h n (by omega)) (h' n (by omega))]
/-- byte j of a number, from its lowest -/
def cd_by (c : Int32) (j : Nat) : Int32 := ((c.toUInt32 >>> ((nI (8 * j)).toUInt32 &&& Int32.toUInt32 31)).toInt32) &&& 255
theorem cd_byB (c : Int32) (j : Nat) : cd_B (cd_by c j) := cd_Ba _
theorem cd_byb (c : Int32) {j i : Nat} (hj : j < 4) (hi : i < 8) : bt (cd_by c j) i = bt c (8 * j + i) := by
  unfold cd_by
  rw [b_and, b_255, decide_eq_true hi, Bool.and_true, b_ushr _ (by omega)]
theorem cd_join (c : Int32) (g : Nat → Int32) (lo : Nat) (h : ∀ j, j < 4 → g (lo + j) = cd_by c (3 - j)) : cs_su g lo 4 = c := by
  have e : cs_su g lo 4 = (((((((0 : Int32) <<< ((8 : Int32) &&& 31)) ||| cd_by c 3) <<< ((8 : Int32) &&& 31)) ||| cd_by c 2) <<< ((8 : Int32) &&& 31)) ||| cd_by c 1) <<< ((8 : Int32) &&& 31) ||| cd_by c 0 := by
    simp only [cs_su]
    rw [h 0 (by decide), h 1 (by decide), h 2 (by decide), h 3 (by decide)]
  rw [e]
  refine b_ext fun i hi => ?_
  rw [cd_st _ (cd_byB c 0) hi]
  by_cases h0 : i < 8
  · rw [if_pos h0, cd_byb c (by decide) h0]; congr 1; omega
  rw [if_neg h0, cd_st _ (cd_byB c 1) (by omega)]
  by_cases h1 : i - 8 < 8
  · rw [if_pos h1, cd_byb c (by decide) h1]; congr 1; omega
  rw [if_neg h1, cd_st _ (cd_byB c 2) (by omega)]
  by_cases h2 : i - 8 - 8 < 8
  · rw [if_pos h2, cd_byb c (by decide) h2]; congr 1; omega
  rw [if_neg h2, cd_st _ (cd_byB c 3) (by omega)]
  have h3 : i - 8 - 8 - 8 < 8 := by omega
  rw [if_pos h3, cd_byb c (by decide) h3]; congr 1; omega
/-- how many cells -/
def cd_n (l : Nat) : Nat := (l + 12) / 8
theorem cd_n_in {l : Nat} (h : l ≤ 27) : 1 ≤ cd_n l ∧ cd_n l ≤ 4 ∧ l + 5 ≤ 8 * cd_n l := by unfold cd_n; omega
/-- byte i of a frame with what is put behind it -/
def cd_pad (l : Nat) (b : Nat → Int32) (i : Nat) : Int32 := if i < l then b i else if i = 8 * cd_n l - 5 then nI l else 0
def cd_crc (l : Nat) (b : Nat → Int32) : Int32 := cs_fo (-1) (cd_pad l b) (8 * cd_n l - 4)
/-- byte i of all cells of a frame -/
def cd_ct (l : Nat) (b : Nat → Int32) (i : Nat) : Int32 := if i < 8 * cd_n l - 4 then cd_pad l b i else cd_by (cd_crc l b) (8 * cd_n l - 1 - i)
theorem cd_pad_cg {l : Nat} {b b' : Nat → Int32} (h : ∀ i, i < l → b i = b' i) : cd_pad l b = cd_pad l b' := by
  funext i
  unfold cd_pad
  by_cases z : i < l
  · rw [if_pos z, if_pos z, h i z]
  · rw [if_neg z, if_neg z]
theorem cd_crc_cg {l : Nat} {b b' : Nat → Int32} (h : ∀ i, i < l → b i = b' i) : cd_crc l b = cd_crc l b' := by
  unfold cd_crc; rw [cd_pad_cg h]
theorem cd_ct_cg {l : Nat} {b b' : Nat → Int32} (h : ∀ i, i < l → b i = b' i) : cd_ct l b = cd_ct l b' := by
  funext i
  unfold cd_ct; rw [cd_pad_cg h, cd_crc_cg h]
theorem cd_padB {l : Nat} {b : Nat → Int32} (hl : l ≤ 27) (hb : ∀ i, cd_B (b i)) (i : Nat) : cd_B (cd_pad l b i) := by
  unfold cd_pad
  split
  · exact hb i
  · split
    · exact cd_Bn (by omega)
    · exact cd_B0
theorem cd_ctB {l : Nat} {b : Nat → Int32} (hl : l ≤ 27) (hb : ∀ i, cd_B (b i)) (i : Nat) : cd_B (cd_ct l b i) := by
  unfold cd_ct
  split
  · exact cd_padB hl hb i
  · exact cd_byB _ _
theorem cd_sum {l : Nat} (b : Nat → Int32) (hl : l ≤ 27) : cs_su (cd_ct l b) (8 * cd_n l - 4) 4 = cd_crc l b := by
  have hn := cd_n_in hl
  refine cd_join _ _ _ fun j hj => ?_
  unfold cd_ct
  rw [if_neg (by omega)]
  congr 1
  omega
theorem cd_E {e : Nat → Nat} (j : Nat) {i : Nat} (hi : i < 8) : cs_er (e ((8 * j + i) / 8)) ((8 * j + i) % 8) = cs_er (e j) i := by
  rw [show (8 * j + i) / 8 = j by omega, show (8 * j + i) % 8 = i by omega]
theorem cd_sy (e : Nat → Nat) (j : Nat) (he : e j ≤ 64) : cs_fo 0 (fun i => cs_er (e (i / 8)) (i % 8)) (8 * (j + 1)) = cs_it 64 (cs_fo 0 (fun i => cs_er (e (i / 8)) (i % 8)) (8 * j)) ^^^ nI (cs_KA.getD (e j) 0) := by
  rw [show 8 * (j + 1) = 8 * j + 8 by omega, cs_fo_add, cs_fo_cg (g' := cs_er (e j)) _ 8 (fun i hi => cd_E j hi), cs_fo_s, cs_kA (e j) (by omega)]
theorem cd_sl4 (e : Nat → Nat) (M : Nat) (he : e M ≤ 64) : cs_fo 0 (fun i => cs_er (e (i / 8)) (i % 8)) (8 * M + 4) ^^^ cs_su (fun i => cs_er (e (i / 8)) (i % 8)) (8 * M + 4) 4 = cs_it 32 (cs_fo 0 (fun i => cs_er (e (i / 8)) (i % 8)) (8 * M)) ^^^ nI (cs_K0.getD (e M) 0) := by
  rw [cs_fo_add, cs_fo_cg (g' := cs_er (e M)) _ 4 (fun i hi => cd_E M (by omega)), cs_fo_s,
    cs_su_cg (g' := cs_er (e M)) (lo' := 4) 4 (fun i hi => by rw [show 8 * M + 4 + i = 8 * M + (4 + i) by omega]; exact cd_E M (by omega)), ← cs_k0 (e M) (by omega)]
  exact Int32.xor_assoc _ _ _
theorem cd_y1 : nI (cs_K1.getD 64 0) = 0 := by decide +kernel
theorem cd_y2 : nI (cs_K2.getD 64 0) = 0 := by decide +kernel
theorem cd_y3 : nI (cs_K3.getD 64 0) = 0 := by decide +kernel
theorem cd_dd (S : Nat → Int32) (e : Nat → Nat) (M : Nat) (hM : M < 4) (he : ∀ j, j < M + 1 → e j ≤ 64) (h0 : S 0 = 0)
    (hs : ∀ j, j < M → S (j + 1) = cs_it 64 (S j) ^^^ nI (cs_KA.getD (e j) 0)) (h : cs_it 32 (S M) ^^^ nI (cs_K0.getD (e M) 0) = 0) : ∀ j, j < M + 1 → e j = 64 := by
  rcases (by omega : M = 0 ∨ M = 1 ∨ M = 2 ∨ M = 3) with rfl | rfl | rfl | rfl
  · rw [h0, cs_it_0] at h
    have h' := ck_I (a := e 0) (b := 64) (c := 64) (d := 64) (he 0 (by omega)) (by omega) (by omega) (by omega) (by rw [cd_y1, cd_y2, cd_y3, cs_x0, cs_x0]; exact h)
    intro j hj
    obtain rfl : j = 0 := by omega
    exact h'.1
  · have s1 : S 1 = nI (cs_KA.getD (e 0) 0) := (hs 0 (by omega)).trans (by rw [h0, cs_it_0, cs_0x])
    have k0 := he 0 (by omega)
    rw [s1, cs_k1 (e 0) (by omega)] at h
    have h' := ck_I (a := e 1) (b := e 0) (c := 64) (d := 64) (he 1 (by omega)) (he 0 (by omega)) (by omega) (by omega) (by rw [cd_y2, cd_y3, cs_x0, cs_0x]; exact h)
    intro j hj
    rcases (by omega : j = 0 ∨ j = 1) with rfl | rfl
    · exact h'.2.1
    · exact h'.1
  · have s1 : S 1 = nI (cs_KA.getD (e 0) 0) := (hs 0 (by omega)).trans (by rw [h0, cs_it_0, cs_0x])
    have s2 : S 2 = cs_it 64 (S 1) ^^^ nI (cs_KA.getD (e 1) 0) := hs 1 (by omega)
    have k0 := he 0 (by omega)
    have k1 := he 1 (by omega)
    rw [s2, s1, cs_it_lin, cs_k2 (e 0) (by omega), cs_k1 (e 1) (by omega)] at h
    have h' := ck_I (a := e 2) (b := e 1) (c := e 0) (d := 64) (he 2 (by omega)) (he 1 (by omega)) (he 0 (by omega)) (by omega) (by rw [cd_y3, cs_0x]; exact h)
    intro j hj
    rcases (by omega : j = 0 ∨ j = 1 ∨ j = 2) with rfl | rfl | rfl
    · exact h'.2.2.1
    · exact h'.2.1
    · exact h'.1
  · have s1 : S 1 = nI (cs_KA.getD (e 0) 0) := (hs 0 (by omega)).trans (by rw [h0, cs_it_0, cs_0x])
    have s2 : S 2 = cs_it 64 (S 1) ^^^ nI (cs_KA.getD (e 1) 0) := hs 1 (by omega)
    have s3 : S 3 = cs_it 64 (S 2) ^^^ nI (cs_KA.getD (e 2) 0) := hs 2 (by omega)
    have k0 := he 0 (by omega)
    have k1 := he 1 (by omega)
    have k2 := he 2 (by omega)
    rw [s3, s2, s1, cs_it_lin, cs_it_lin, cs_it_lin, cs_k3 (e 0) (by omega), cs_k2 (e 1) (by omega), cs_k1 (e 2) (by omega)] at h
    have h' := ck_I (a := e 3) (b := e 2) (c := e 1) (d := e 0) (he 3 (by omega)) (he 2 (by omega)) (he 1 (by omega)) (he 0 (by omega)) h
    intro j hj
    rcases (by omega : j = 0 ∨ j = 1 ∨ j = 2 ∨ j = 3) with rfl | rfl | rfl | rfl
    · exact h'.2.2.2
    · exact h'.2.2.1
    · exact h'.2.1
    · exact h'.1
theorem cd_det0 (e : Nat → Nat) (M : Nat) (hM : M < 4) (he : ∀ j, j < M + 1 → e j ≤ 64)
    (h : cs_fo 0 (fun i => cs_er (e (i / 8)) (i % 8)) (8 * M + 4) ^^^ cs_su (fun i => cs_er (e (i / 8)) (i % 8)) (8 * M + 4) 4 = 0) : ∀ j, j < M + 1 → e j = 64 := by
  rw [cd_sl4 e M (he M (by omega))] at h
  exact cd_dd (fun j => cs_fo 0 (fun i => cs_er (e (i / 8)) (i % 8)) (8 * j)) e M hM he rfl (fun j hj => cd_sy e j (he j (by omega))) h
theorem cd_er64 (i : Nat) (hi : i < 8) : cs_er 64 i = 0 := if_neg (by omega)
/-- what is kept of a frame passes the check just if no bit is turned -/
theorem cd_det {l : Nat} {b : Nat → Int32} (hl : l ≤ 27) (hb : ∀ i, cd_B (b i)) (e : Nat → Nat) (he : ∀ j, j < cd_n l → e j ≤ 64) (h : Nat → Int32)
    (hh : ∀ i, i < 8 * cd_n l → h i = cd_ct l b i ^^^ cs_er (e (i / 8)) (i % 8)) :
    (cs_su h (8 * cd_n l - 4) 4 = cs_fo (-1) h (8 * cd_n l - 4)) ↔ ∀ j, j < cd_n l → e j = 64 := by
  have hn := cd_n_in hl
  have hA : cs_fo (-1) h (8 * cd_n l - 4) = cd_crc l b ^^^ cs_fo 0 (fun i => cs_er (e (i / 8)) (i % 8)) (8 * cd_n l - 4) := by
    unfold cd_crc
    rw [← cs_fo_lin, cs_x0]
    refine cs_fo_cg _ _ fun i hi => ?_
    rw [hh i (by omega)]
    unfold cd_ct
    rw [if_pos hi]
  have hB : cs_su h (8 * cd_n l - 4) 4 = cd_crc l b ^^^ cs_su (fun i => cs_er (e (i / 8)) (i % 8)) (8 * cd_n l - 4) 4 := by
    rw [← cd_sum b hl, ← cd_su_lin (cd_ct l b) (fun i => cs_er (e (i / 8)) (i % 8)) _ _ (fun i _ => cd_ctB hl hb _) (fun i _ => cd_Be _ _)]
    exact cs_su_cg 4 fun i hi => hh _ (by omega)
  obtain ⟨M, hM⟩ : ∃ M, cd_n l = M + 1 := ⟨cd_n l - 1, by omega⟩
  rw [hA, hB, hM, show 8 * (M + 1) - 4 = 8 * M + 4 by omega]
  constructor
  · intro z
    have z2 : cs_fo 0 (fun i => cs_er (e (i / 8)) (i % 8)) (8 * M + 4) ^^^ cs_su (fun i => cs_er (e (i / 8)) (i % 8)) (8 * M + 4) 4 = 0 := by
      have := congrArg (fun w => cd_crc l b ^^^ w) z
      rw [← Int32.xor_assoc, ← Int32.xor_assoc, cs_xx, cs_0x, cs_0x] at this
      rw [this, cs_xx]
    exact cd_det0 e M (by omega) (fun j hj => he j (by omega)) z2
  · intro z
    have z1 : cs_fo 0 (fun i => cs_er (e (i / 8)) (i % 8)) (8 * M + 4) = 0 := by
      rw [cs_fo_cg (g' := fun _ => 0) 0 (8 * M + 4) (fun i hi => by rw [z (i / 8) (by omega)]; exact cd_er64 _ (by omega)), cs_fo_z, cs_it_0]
    have z3 : cs_su (fun i => cs_er (e (i / 8)) (i % 8)) (8 * M + 4) 4 = 0 := by
      rw [cs_su_cg (g' := fun _ => 0) (lo' := 0) 4 (fun i hi => by rw [z ((8 * M + 4 + i) / 8) (by omega)]; exact cd_er64 _ (by omega))]
      decide
    rw [z1, z3]
end
section
def hd_st (x : Int32) (b : Bool) : Int32 := ((x <<< ((1 : Int32) &&& 31)) &&& 255) ^^^ (if (bt x 7 ^^ b) = true then 7 else 0)
theorem hd_stb (x : Int32) (b : Bool) {i : Nat} (hi : i < 32) : bt (hd_st x b) i = (((decide (1 ≤ i) && bt x (i - 1)) && decide (i < 8)) ^^ ((bt x 7 ^^ b) && bt 7 i)) := by
  unfold hd_st
  have h := b_shl 1 (by decide) x hi
  rw [show nI 1 = (1 : Int32) from rfl] at h
  rw [b_xor, b_and, b_255, h]
  cases (bt x 7 ^^ b)
  · rw [if_neg (by decide), b_0, Bool.false_and]
  · rw [if_pos rfl, Bool.true_and]
theorem hd_lin (x y : Int32) (b c : Bool) : hd_st (x ^^^ y) (b ^^ c) = hd_st x b ^^^ hd_st y c := b_ext fun i hi => by
  rw [b_xor, hd_stb _ _ hi, hd_stb _ _ hi, hd_stb _ _ hi, b_xor, b_xor]
  cases decide (1 ≤ i) <;> cases bt x (i - 1) <;> cases bt y (i - 1) <;> cases decide (i < 8) <;> cases bt x 7 <;> cases bt y 7 <;> cases b <;> cases c <;> cases bt 7 i <;> rfl
/-- the head's check of the bits g (k - 1) .. g 0 -/
def hd_cr (g : Nat → Bool) : Nat → Int32 → Int32
  | 0, x => x
  | k + 1, x => hd_cr g k (hd_st x (g k))
theorem hd_cr_lin (g g' : Nat → Bool) : ∀ (k : Nat) (x y : Int32), hd_cr (fun i => g i ^^ g' i) k (x ^^^ y) = hd_cr g k x ^^^ hd_cr g' k y := by
  intro k
  induction k with
  | zero => intro x y; rfl
  | succ k ih => intro x y; show hd_cr (fun i => g i ^^ g' i) k (hd_st (x ^^^ y) (g k ^^ g' k)) = hd_cr g k (hd_st x (g k)) ^^^ hd_cr g' k (hd_st y (g' k)); rw [hd_lin, ih]
theorem hd_cr_cg {g g' : Nat → Bool} : ∀ (k : Nat) (x : Int32), (∀ i, i < k → g i = g' i) → hd_cr g k x = hd_cr g' k x := by
  intro k
  induction k with
  | zero => intro x _; rfl
  | succ k ih => intro x h; show hd_cr g k (hd_st x (g k)) = hd_cr g' k (hd_st x (g' k)); rw [h k (by omega), ih _ (fun i hi => h i (by omega))]
def hd_g (a b c : Int32) (k : Nat) : Bool := if k < 8 then bt c k else if k < 16 then bt b (k - 8) else bt a (k - 16)
/-- the check of a head's three bytes -/
def hd_c (a b c : Int32) : Int32 := hd_cr (hd_g a b c) 24 0
theorem hd_word {a b c : Int32} (hb : cd_B b) (hc : cd_B c) {k : Nat} (hk : k < 24) : bt (((a <<< ((16 : Int32) &&& 31)) ||| (b <<< ((8 : Int32) &&& 31))) ||| c) k = hd_g a b c k := by
  rw [b_or, b_or, b_shl16 a (by omega), b_shl8 b (by omega)]
  unfold hd_g
  by_cases h0 : k < 8
  · rw [if_pos h0, decide_eq_false (by omega : ¬ 16 ≤ k), decide_eq_false (by omega : ¬ 8 ≤ k), Bool.false_and, Bool.false_and, Bool.false_or, Bool.false_or]
  rw [if_neg h0, cd_Bb hc (by omega), Bool.or_false]
  by_cases h1 : k < 16
  · rw [if_pos h1, decide_eq_false (by omega : ¬ 16 ≤ k), decide_eq_true (by omega : 8 ≤ k), Bool.false_and, Bool.true_and, Bool.false_or]
  · rw [if_neg h1, decide_eq_true (by omega : 16 ≤ k), decide_eq_true (by omega : 8 ≤ k), Bool.true_and, Bool.true_and, cd_Bb hb (by omega), Bool.or_false]
theorem hd_c_lin (a b c a' b' c' : Int32) : hd_c (a ^^^ a') (b ^^^ b') (c ^^^ c') = hd_c a b c ^^^ hd_c a' b' c' := by
  unfold hd_c
  rw [← hd_cr_lin, cs_x0]
  refine hd_cr_cg _ _ fun i _ => ?_
  unfold hd_g
  split
  · exact b_xor _ _ _
  · split <;> exact b_xor _ _ _
/-- what the check says of a cell -/
def hd_wr (a : Nat → Int32) : Int32 := hd_c (a 0) (a 1) (a 2) ^^^ a 3
theorem hd_wr_lin (a b : Nat → Int32) : hd_wr (fun i => a i ^^^ b i) = hd_wr a ^^^ hd_wr b := by
  unfold hd_wr
  rw [hd_c_lin, cs_ac]
/-- a cell with bit p turned -/
def hd_fl (a : Nat → Int32) (p : Nat) : Nat → Int32 := upd a (p / 8) (a (p / 8) ^^^ nI (2 ^ (p % 8)))
theorem hd_fl_at (a : Nat → Int32) (p i : Nat) : hd_fl a p i = a i ^^^ (if i = p / 8 then nI (2 ^ (p % 8)) else 0) := by
  unfold hd_fl upd
  split
  · rename_i h; rw [h]
  · rw [cs_x0]
theorem hd_fl2 (a : Nat → Int32) (p : Nat) : hd_fl (hd_fl a p) p = a := by
  funext i
  rw [hd_fl_at, hd_fl_at, cs_xxx]
theorem hd_flc (a : Nat → Int32) (p q : Nat) : hd_fl (hd_fl a p) q = hd_fl (hd_fl a q) p := by
  funext i
  rw [hd_fl_at, hd_fl_at, hd_fl_at, hd_fl_at, Int32.xor_assoc, Int32.xor_assoc]
  congr 1
  exact Int32.xor_comm _ _
def hd_H : List Nat := [107, 214, 171, 81, 162, 67, 134, 11, 21, 42, 84, 168, 87, 174, 91, 182, 7, 14, 28, 56, 112, 224, 199, 137, 1, 2, 4, 8, 16, 32, 64, 128]
def hd_e (p i : Nat) : Int32 := if i = p / 8 then nI (2 ^ (p % 8)) else 0
theorem hd_syn : ∀ p, p < 32 → hd_wr (hd_e p) = nI (hd_H.getD p 0) := by decide +kernel
theorem hd_wfl (a : Nat → Int32) {p : Nat} (hp : p < 32) : hd_wr (hd_fl a p) = hd_wr a ^^^ nI (hd_H.getD p 0) := by
  rw [← hd_syn p hp, ← hd_wr_lin]
  congr 1
  funext i
  exact hd_fl_at a p i
theorem hd_wfc (a : Nat → Int32) {p : Nat} (hp : 32 ≤ p) : hd_wr (hd_fl a p) = hd_wr a := by
  unfold hd_wr
  rw [hd_fl_at, hd_fl_at, hd_fl_at, hd_fl_at, if_neg (by omega), if_neg (by omega), if_neg (by omega), if_neg (by omega), cs_x0, cs_x0, cs_x0, cs_x0]
theorem hd_ne0 : ∀ p, p < 32 → ¬ nI (hd_H.getD p 0) = 0 := by decide +kernel
theorem hd_inj : ∀ p, p < 32 → ∀ q, q < 32 → nI (hd_H.getD p 0) = nI (hd_H.getD q 0) → p = q := by decide +kernel
def hd_par (x : Int32) : Bool := bt x 0 ^^ (bt x 1 ^^ (bt x 2 ^^ (bt x 3 ^^ (bt x 4 ^^ (bt x 5 ^^ (bt x 6 ^^ bt x 7))))))
theorem hd_odd : ∀ p, p < 32 → hd_par (nI (hd_H.getD p 0)) = true := by decide +kernel
theorem hd_parx (x y : Int32) : hd_par (x ^^^ y) = (hd_par x ^^ hd_par y) := by
  unfold hd_par
  simp only [b_xor]
  generalize bt x 0 = a0; generalize bt x 1 = a1; generalize bt x 2 = a2; generalize bt x 3 = a3; generalize bt x 4 = a4; generalize bt x 5 = a5; generalize bt x 6 = a6; generalize bt x 7 = a7
  generalize bt y 0 = b0; generalize bt y 1 = b1; generalize bt y 2 = b2; generalize bt y 3 = b3; generalize bt y 4 = b4; generalize bt y 5 = b5; generalize bt y 6 = b6; generalize bt y 7 = b7
  have ac : ∀ p q r s : Bool, ((p ^^ q) ^^ (r ^^ s)) = ((p ^^ r) ^^ (q ^^ s)) := by decide
  rw [ac a6 b6 a7 b7, ac a5 b5, ac a4 b4, ac a3 b3, ac a2 b2, ac a1 b1, ac a0 b0]
/-- two turned bits are not one, nor none -/
theorem hd_two {p q r : Nat} (hp : p < 32) (hq : q < 32) (hr : r < 32) : ¬ (nI (hd_H.getD p 0) ^^^ nI (hd_H.getD q 0)) ^^^ nI (hd_H.getD r 0) = 0 := by
  intro h
  have := congrArg hd_par h
  rw [hd_parx, hd_parx, hd_odd p hp, hd_odd q hq, hd_odd r hr] at this
  revert this
  decide
theorem hd_two0 {p q : Nat} (hp : p < 32) (hq : q < 32) (hne : p ≠ q) : ¬ nI (hd_H.getD p 0) ^^^ nI (hd_H.getD q 0) = 0 := fun h => hne (hd_inj p hp q hq (cs_xeq h))
end
section
theorem nl_le0 {a : Nat} (h : a < 2147483648) : (0 : Int32) ≤ nI a ↔ 0 ≤ a := nI_leI (a := 0) (by decide) h
theorem nl_el0 {a : Nat} (h : a < 2147483648) : nI a ≤ (0 : Int32) ↔ a ≤ 0 := nI_leI (b := 0) h (by decide)
theorem nl_lt0 {a : Nat} (h : a < 2147483648) : (0 : Int32) < nI a ↔ 0 < a := nI_ltI (a := 0) (by decide) h
theorem nl_tl0 {a : Nat} (h : a < 2147483648) : nI a < (0 : Int32) ↔ a < 0 := nI_ltI (b := 0) h (by decide)
theorem nl_eq0 {a : Nat} (h : a < 2147483648) : nI a = (0 : Int32) ↔ a = 0 := nI_eq (b := 0) h (by decide)
theorem nl_al1 (a : Nat) : (1 : Int32) + nI a = nI (1 + a) := nI_add 1 a
theorem nl_ar1 (a : Nat) : nI a + (1 : Int32) = nI (a + 1) := nI_add a 1
theorem nl_sr1 {a : Nat} (h : 1 ≤ a) : nI a - (1 : Int32) = nI (a - 1) := pk_sub h
theorem nl_le1 {a : Nat} (h : a < 2147483648) : (1 : Int32) ≤ nI a ↔ 1 ≤ a := nI_leI (a := 1) (by decide) h
theorem nl_el1 {a : Nat} (h : a < 2147483648) : nI a ≤ (1 : Int32) ↔ a ≤ 1 := nI_leI (b := 1) h (by decide)
theorem nl_lt1 {a : Nat} (h : a < 2147483648) : (1 : Int32) < nI a ↔ 1 < a := nI_ltI (a := 1) (by decide) h
theorem nl_tl1 {a : Nat} (h : a < 2147483648) : nI a < (1 : Int32) ↔ a < 1 := nI_ltI (b := 1) h (by decide)
theorem nl_eq1 {a : Nat} (h : a < 2147483648) : nI a = (1 : Int32) ↔ a = 1 := nI_eq (b := 1) h (by decide)
theorem nl_m2 (a : Nat) : (2 : Int32) * nI a = nI (2 * a) := pk_mul 2 a
theorem nl_al2 (a : Nat) : (2 : Int32) + nI a = nI (2 + a) := nI_add 2 a
theorem nl_ar2 (a : Nat) : nI a + (2 : Int32) = nI (a + 2) := nI_add a 2
theorem nl_sr2 {a : Nat} (h : 2 ≤ a) : nI a - (2 : Int32) = nI (a - 2) := pk_sub h
theorem nl_le2 {a : Nat} (h : a < 2147483648) : (2 : Int32) ≤ nI a ↔ 2 ≤ a := nI_leI (a := 2) (by decide) h
theorem nl_el2 {a : Nat} (h : a < 2147483648) : nI a ≤ (2 : Int32) ↔ a ≤ 2 := nI_leI (b := 2) h (by decide)
theorem nl_lt2 {a : Nat} (h : a < 2147483648) : (2 : Int32) < nI a ↔ 2 < a := nI_ltI (a := 2) (by decide) h
theorem nl_tl2 {a : Nat} (h : a < 2147483648) : nI a < (2 : Int32) ↔ a < 2 := nI_ltI (b := 2) h (by decide)
theorem nl_eq2 {a : Nat} (h : a < 2147483648) : nI a = (2 : Int32) ↔ a = 2 := nI_eq (b := 2) h (by decide)
theorem nl_m3 (a : Nat) : (3 : Int32) * nI a = nI (3 * a) := pk_mul 3 a
theorem nl_al3 (a : Nat) : (3 : Int32) + nI a = nI (3 + a) := nI_add 3 a
theorem nl_ar3 (a : Nat) : nI a + (3 : Int32) = nI (a + 3) := nI_add a 3
theorem nl_sr3 {a : Nat} (h : 3 ≤ a) : nI a - (3 : Int32) = nI (a - 3) := pk_sub h
theorem nl_le3 {a : Nat} (h : a < 2147483648) : (3 : Int32) ≤ nI a ↔ 3 ≤ a := nI_leI (a := 3) (by decide) h
theorem nl_el3 {a : Nat} (h : a < 2147483648) : nI a ≤ (3 : Int32) ↔ a ≤ 3 := nI_leI (b := 3) h (by decide)
theorem nl_lt3 {a : Nat} (h : a < 2147483648) : (3 : Int32) < nI a ↔ 3 < a := nI_ltI (a := 3) (by decide) h
theorem nl_tl3 {a : Nat} (h : a < 2147483648) : nI a < (3 : Int32) ↔ a < 3 := nI_ltI (b := 3) h (by decide)
theorem nl_eq3 {a : Nat} (h : a < 2147483648) : nI a = (3 : Int32) ↔ a = 3 := nI_eq (b := 3) h (by decide)
theorem nl_m4 (a : Nat) : (4 : Int32) * nI a = nI (4 * a) := pk_mul 4 a
theorem nl_al4 (a : Nat) : (4 : Int32) + nI a = nI (4 + a) := nI_add 4 a
theorem nl_ar4 (a : Nat) : nI a + (4 : Int32) = nI (a + 4) := nI_add a 4
theorem nl_sr4 {a : Nat} (h : 4 ≤ a) : nI a - (4 : Int32) = nI (a - 4) := pk_sub h
theorem nl_le4 {a : Nat} (h : a < 2147483648) : (4 : Int32) ≤ nI a ↔ 4 ≤ a := nI_leI (a := 4) (by decide) h
theorem nl_el4 {a : Nat} (h : a < 2147483648) : nI a ≤ (4 : Int32) ↔ a ≤ 4 := nI_leI (b := 4) h (by decide)
theorem nl_lt4 {a : Nat} (h : a < 2147483648) : (4 : Int32) < nI a ↔ 4 < a := nI_ltI (a := 4) (by decide) h
theorem nl_tl4 {a : Nat} (h : a < 2147483648) : nI a < (4 : Int32) ↔ a < 4 := nI_ltI (b := 4) h (by decide)
theorem nl_eq4 {a : Nat} (h : a < 2147483648) : nI a = (4 : Int32) ↔ a = 4 := nI_eq (b := 4) h (by decide)
theorem nl_m5 (a : Nat) : (5 : Int32) * nI a = nI (5 * a) := pk_mul 5 a
theorem nl_al5 (a : Nat) : (5 : Int32) + nI a = nI (5 + a) := nI_add 5 a
theorem nl_ar5 (a : Nat) : nI a + (5 : Int32) = nI (a + 5) := nI_add a 5
theorem nl_sr5 {a : Nat} (h : 5 ≤ a) : nI a - (5 : Int32) = nI (a - 5) := pk_sub h
theorem nl_le5 {a : Nat} (h : a < 2147483648) : (5 : Int32) ≤ nI a ↔ 5 ≤ a := nI_leI (a := 5) (by decide) h
theorem nl_el5 {a : Nat} (h : a < 2147483648) : nI a ≤ (5 : Int32) ↔ a ≤ 5 := nI_leI (b := 5) h (by decide)
theorem nl_lt5 {a : Nat} (h : a < 2147483648) : (5 : Int32) < nI a ↔ 5 < a := nI_ltI (a := 5) (by decide) h
theorem nl_tl5 {a : Nat} (h : a < 2147483648) : nI a < (5 : Int32) ↔ a < 5 := nI_ltI (b := 5) h (by decide)
theorem nl_eq5 {a : Nat} (h : a < 2147483648) : nI a = (5 : Int32) ↔ a = 5 := nI_eq (b := 5) h (by decide)
theorem nl_m6 (a : Nat) : (6 : Int32) * nI a = nI (6 * a) := pk_mul 6 a
theorem nl_al6 (a : Nat) : (6 : Int32) + nI a = nI (6 + a) := nI_add 6 a
theorem nl_ar6 (a : Nat) : nI a + (6 : Int32) = nI (a + 6) := nI_add a 6
theorem nl_sr6 {a : Nat} (h : 6 ≤ a) : nI a - (6 : Int32) = nI (a - 6) := pk_sub h
theorem nl_le6 {a : Nat} (h : a < 2147483648) : (6 : Int32) ≤ nI a ↔ 6 ≤ a := nI_leI (a := 6) (by decide) h
theorem nl_el6 {a : Nat} (h : a < 2147483648) : nI a ≤ (6 : Int32) ↔ a ≤ 6 := nI_leI (b := 6) h (by decide)
theorem nl_lt6 {a : Nat} (h : a < 2147483648) : (6 : Int32) < nI a ↔ 6 < a := nI_ltI (a := 6) (by decide) h
theorem nl_tl6 {a : Nat} (h : a < 2147483648) : nI a < (6 : Int32) ↔ a < 6 := nI_ltI (b := 6) h (by decide)
theorem nl_eq6 {a : Nat} (h : a < 2147483648) : nI a = (6 : Int32) ↔ a = 6 := nI_eq (b := 6) h (by decide)
theorem nl_m7 (a : Nat) : (7 : Int32) * nI a = nI (7 * a) := pk_mul 7 a
theorem nl_al7 (a : Nat) : (7 : Int32) + nI a = nI (7 + a) := nI_add 7 a
theorem nl_ar7 (a : Nat) : nI a + (7 : Int32) = nI (a + 7) := nI_add a 7
theorem nl_sr7 {a : Nat} (h : 7 ≤ a) : nI a - (7 : Int32) = nI (a - 7) := pk_sub h
theorem nl_le7 {a : Nat} (h : a < 2147483648) : (7 : Int32) ≤ nI a ↔ 7 ≤ a := nI_leI (a := 7) (by decide) h
theorem nl_el7 {a : Nat} (h : a < 2147483648) : nI a ≤ (7 : Int32) ↔ a ≤ 7 := nI_leI (b := 7) h (by decide)
theorem nl_lt7 {a : Nat} (h : a < 2147483648) : (7 : Int32) < nI a ↔ 7 < a := nI_ltI (a := 7) (by decide) h
theorem nl_tl7 {a : Nat} (h : a < 2147483648) : nI a < (7 : Int32) ↔ a < 7 := nI_ltI (b := 7) h (by decide)
theorem nl_eq7 {a : Nat} (h : a < 2147483648) : nI a = (7 : Int32) ↔ a = 7 := nI_eq (b := 7) h (by decide)
theorem nl_m8 (a : Nat) : (8 : Int32) * nI a = nI (8 * a) := pk_mul 8 a
theorem nl_al8 (a : Nat) : (8 : Int32) + nI a = nI (8 + a) := nI_add 8 a
theorem nl_ar8 (a : Nat) : nI a + (8 : Int32) = nI (a + 8) := nI_add a 8
theorem nl_sr8 {a : Nat} (h : 8 ≤ a) : nI a - (8 : Int32) = nI (a - 8) := pk_sub h
theorem nl_le8 {a : Nat} (h : a < 2147483648) : (8 : Int32) ≤ nI a ↔ 8 ≤ a := nI_leI (a := 8) (by decide) h
theorem nl_el8 {a : Nat} (h : a < 2147483648) : nI a ≤ (8 : Int32) ↔ a ≤ 8 := nI_leI (b := 8) h (by decide)
theorem nl_lt8 {a : Nat} (h : a < 2147483648) : (8 : Int32) < nI a ↔ 8 < a := nI_ltI (a := 8) (by decide) h
theorem nl_tl8 {a : Nat} (h : a < 2147483648) : nI a < (8 : Int32) ↔ a < 8 := nI_ltI (b := 8) h (by decide)
theorem nl_eq8 {a : Nat} (h : a < 2147483648) : nI a = (8 : Int32) ↔ a = 8 := nI_eq (b := 8) h (by decide)
theorem nl_m9 (a : Nat) : (9 : Int32) * nI a = nI (9 * a) := pk_mul 9 a
theorem nl_al9 (a : Nat) : (9 : Int32) + nI a = nI (9 + a) := nI_add 9 a
theorem nl_ar9 (a : Nat) : nI a + (9 : Int32) = nI (a + 9) := nI_add a 9
theorem nl_sr9 {a : Nat} (h : 9 ≤ a) : nI a - (9 : Int32) = nI (a - 9) := pk_sub h
theorem nl_le9 {a : Nat} (h : a < 2147483648) : (9 : Int32) ≤ nI a ↔ 9 ≤ a := nI_leI (a := 9) (by decide) h
theorem nl_el9 {a : Nat} (h : a < 2147483648) : nI a ≤ (9 : Int32) ↔ a ≤ 9 := nI_leI (b := 9) h (by decide)
theorem nl_lt9 {a : Nat} (h : a < 2147483648) : (9 : Int32) < nI a ↔ 9 < a := nI_ltI (a := 9) (by decide) h
theorem nl_tl9 {a : Nat} (h : a < 2147483648) : nI a < (9 : Int32) ↔ a < 9 := nI_ltI (b := 9) h (by decide)
theorem nl_eq9 {a : Nat} (h : a < 2147483648) : nI a = (9 : Int32) ↔ a = 9 := nI_eq (b := 9) h (by decide)
theorem nl_m12 (a : Nat) : (12 : Int32) * nI a = nI (12 * a) := pk_mul 12 a
theorem nl_al12 (a : Nat) : (12 : Int32) + nI a = nI (12 + a) := nI_add 12 a
theorem nl_ar12 (a : Nat) : nI a + (12 : Int32) = nI (a + 12) := nI_add a 12
theorem nl_sr12 {a : Nat} (h : 12 ≤ a) : nI a - (12 : Int32) = nI (a - 12) := pk_sub h
theorem nl_le12 {a : Nat} (h : a < 2147483648) : (12 : Int32) ≤ nI a ↔ 12 ≤ a := nI_leI (a := 12) (by decide) h
theorem nl_el12 {a : Nat} (h : a < 2147483648) : nI a ≤ (12 : Int32) ↔ a ≤ 12 := nI_leI (b := 12) h (by decide)
theorem nl_lt12 {a : Nat} (h : a < 2147483648) : (12 : Int32) < nI a ↔ 12 < a := nI_ltI (a := 12) (by decide) h
theorem nl_tl12 {a : Nat} (h : a < 2147483648) : nI a < (12 : Int32) ↔ a < 12 := nI_ltI (b := 12) h (by decide)
theorem nl_eq12 {a : Nat} (h : a < 2147483648) : nI a = (12 : Int32) ↔ a = 12 := nI_eq (b := 12) h (by decide)
theorem nl_m15 (a : Nat) : (15 : Int32) * nI a = nI (15 * a) := pk_mul 15 a
theorem nl_al15 (a : Nat) : (15 : Int32) + nI a = nI (15 + a) := nI_add 15 a
theorem nl_ar15 (a : Nat) : nI a + (15 : Int32) = nI (a + 15) := nI_add a 15
theorem nl_sr15 {a : Nat} (h : 15 ≤ a) : nI a - (15 : Int32) = nI (a - 15) := pk_sub h
theorem nl_le15 {a : Nat} (h : a < 2147483648) : (15 : Int32) ≤ nI a ↔ 15 ≤ a := nI_leI (a := 15) (by decide) h
theorem nl_el15 {a : Nat} (h : a < 2147483648) : nI a ≤ (15 : Int32) ↔ a ≤ 15 := nI_leI (b := 15) h (by decide)
theorem nl_lt15 {a : Nat} (h : a < 2147483648) : (15 : Int32) < nI a ↔ 15 < a := nI_ltI (a := 15) (by decide) h
theorem nl_tl15 {a : Nat} (h : a < 2147483648) : nI a < (15 : Int32) ↔ a < 15 := nI_ltI (b := 15) h (by decide)
theorem nl_eq15 {a : Nat} (h : a < 2147483648) : nI a = (15 : Int32) ↔ a = 15 := nI_eq (b := 15) h (by decide)
theorem nl_m16 (a : Nat) : (16 : Int32) * nI a = nI (16 * a) := pk_mul 16 a
theorem nl_al16 (a : Nat) : (16 : Int32) + nI a = nI (16 + a) := nI_add 16 a
theorem nl_ar16 (a : Nat) : nI a + (16 : Int32) = nI (a + 16) := nI_add a 16
theorem nl_sr16 {a : Nat} (h : 16 ≤ a) : nI a - (16 : Int32) = nI (a - 16) := pk_sub h
theorem nl_le16 {a : Nat} (h : a < 2147483648) : (16 : Int32) ≤ nI a ↔ 16 ≤ a := nI_leI (a := 16) (by decide) h
theorem nl_el16 {a : Nat} (h : a < 2147483648) : nI a ≤ (16 : Int32) ↔ a ≤ 16 := nI_leI (b := 16) h (by decide)
theorem nl_lt16 {a : Nat} (h : a < 2147483648) : (16 : Int32) < nI a ↔ 16 < a := nI_ltI (a := 16) (by decide) h
theorem nl_tl16 {a : Nat} (h : a < 2147483648) : nI a < (16 : Int32) ↔ a < 16 := nI_ltI (b := 16) h (by decide)
theorem nl_eq16 {a : Nat} (h : a < 2147483648) : nI a = (16 : Int32) ↔ a = 16 := nI_eq (b := 16) h (by decide)
theorem nl_m23 (a : Nat) : (23 : Int32) * nI a = nI (23 * a) := pk_mul 23 a
theorem nl_al23 (a : Nat) : (23 : Int32) + nI a = nI (23 + a) := nI_add 23 a
theorem nl_ar23 (a : Nat) : nI a + (23 : Int32) = nI (a + 23) := nI_add a 23
theorem nl_sr23 {a : Nat} (h : 23 ≤ a) : nI a - (23 : Int32) = nI (a - 23) := pk_sub h
theorem nl_le23 {a : Nat} (h : a < 2147483648) : (23 : Int32) ≤ nI a ↔ 23 ≤ a := nI_leI (a := 23) (by decide) h
theorem nl_el23 {a : Nat} (h : a < 2147483648) : nI a ≤ (23 : Int32) ↔ a ≤ 23 := nI_leI (b := 23) h (by decide)
theorem nl_lt23 {a : Nat} (h : a < 2147483648) : (23 : Int32) < nI a ↔ 23 < a := nI_ltI (a := 23) (by decide) h
theorem nl_tl23 {a : Nat} (h : a < 2147483648) : nI a < (23 : Int32) ↔ a < 23 := nI_ltI (b := 23) h (by decide)
theorem nl_eq23 {a : Nat} (h : a < 2147483648) : nI a = (23 : Int32) ↔ a = 23 := nI_eq (b := 23) h (by decide)
theorem nl_m24 (a : Nat) : (24 : Int32) * nI a = nI (24 * a) := pk_mul 24 a
theorem nl_al24 (a : Nat) : (24 : Int32) + nI a = nI (24 + a) := nI_add 24 a
theorem nl_ar24 (a : Nat) : nI a + (24 : Int32) = nI (a + 24) := nI_add a 24
theorem nl_sr24 {a : Nat} (h : 24 ≤ a) : nI a - (24 : Int32) = nI (a - 24) := pk_sub h
theorem nl_le24 {a : Nat} (h : a < 2147483648) : (24 : Int32) ≤ nI a ↔ 24 ≤ a := nI_leI (a := 24) (by decide) h
theorem nl_el24 {a : Nat} (h : a < 2147483648) : nI a ≤ (24 : Int32) ↔ a ≤ 24 := nI_leI (b := 24) h (by decide)
theorem nl_lt24 {a : Nat} (h : a < 2147483648) : (24 : Int32) < nI a ↔ 24 < a := nI_ltI (a := 24) (by decide) h
theorem nl_tl24 {a : Nat} (h : a < 2147483648) : nI a < (24 : Int32) ↔ a < 24 := nI_ltI (b := 24) h (by decide)
theorem nl_eq24 {a : Nat} (h : a < 2147483648) : nI a = (24 : Int32) ↔ a = 24 := nI_eq (b := 24) h (by decide)
theorem nl_m26 (a : Nat) : (26 : Int32) * nI a = nI (26 * a) := pk_mul 26 a
theorem nl_al26 (a : Nat) : (26 : Int32) + nI a = nI (26 + a) := nI_add 26 a
theorem nl_ar26 (a : Nat) : nI a + (26 : Int32) = nI (a + 26) := nI_add a 26
theorem nl_sr26 {a : Nat} (h : 26 ≤ a) : nI a - (26 : Int32) = nI (a - 26) := pk_sub h
theorem nl_le26 {a : Nat} (h : a < 2147483648) : (26 : Int32) ≤ nI a ↔ 26 ≤ a := nI_leI (a := 26) (by decide) h
theorem nl_el26 {a : Nat} (h : a < 2147483648) : nI a ≤ (26 : Int32) ↔ a ≤ 26 := nI_leI (b := 26) h (by decide)
theorem nl_lt26 {a : Nat} (h : a < 2147483648) : (26 : Int32) < nI a ↔ 26 < a := nI_ltI (a := 26) (by decide) h
theorem nl_tl26 {a : Nat} (h : a < 2147483648) : nI a < (26 : Int32) ↔ a < 26 := nI_ltI (b := 26) h (by decide)
theorem nl_eq26 {a : Nat} (h : a < 2147483648) : nI a = (26 : Int32) ↔ a = 26 := nI_eq (b := 26) h (by decide)
theorem nl_m27 (a : Nat) : (27 : Int32) * nI a = nI (27 * a) := pk_mul 27 a
theorem nl_al27 (a : Nat) : (27 : Int32) + nI a = nI (27 + a) := nI_add 27 a
theorem nl_ar27 (a : Nat) : nI a + (27 : Int32) = nI (a + 27) := nI_add a 27
theorem nl_sr27 {a : Nat} (h : 27 ≤ a) : nI a - (27 : Int32) = nI (a - 27) := pk_sub h
theorem nl_le27 {a : Nat} (h : a < 2147483648) : (27 : Int32) ≤ nI a ↔ 27 ≤ a := nI_leI (a := 27) (by decide) h
theorem nl_el27 {a : Nat} (h : a < 2147483648) : nI a ≤ (27 : Int32) ↔ a ≤ 27 := nI_leI (b := 27) h (by decide)
theorem nl_lt27 {a : Nat} (h : a < 2147483648) : (27 : Int32) < nI a ↔ 27 < a := nI_ltI (a := 27) (by decide) h
theorem nl_tl27 {a : Nat} (h : a < 2147483648) : nI a < (27 : Int32) ↔ a < 27 := nI_ltI (b := 27) h (by decide)
theorem nl_eq27 {a : Nat} (h : a < 2147483648) : nI a = (27 : Int32) ↔ a = 27 := nI_eq (b := 27) h (by decide)
theorem nl_m31 (a : Nat) : (31 : Int32) * nI a = nI (31 * a) := pk_mul 31 a
theorem nl_al31 (a : Nat) : (31 : Int32) + nI a = nI (31 + a) := nI_add 31 a
theorem nl_ar31 (a : Nat) : nI a + (31 : Int32) = nI (a + 31) := nI_add a 31
theorem nl_sr31 {a : Nat} (h : 31 ≤ a) : nI a - (31 : Int32) = nI (a - 31) := pk_sub h
theorem nl_le31 {a : Nat} (h : a < 2147483648) : (31 : Int32) ≤ nI a ↔ 31 ≤ a := nI_leI (a := 31) (by decide) h
theorem nl_el31 {a : Nat} (h : a < 2147483648) : nI a ≤ (31 : Int32) ↔ a ≤ 31 := nI_leI (b := 31) h (by decide)
theorem nl_lt31 {a : Nat} (h : a < 2147483648) : (31 : Int32) < nI a ↔ 31 < a := nI_ltI (a := 31) (by decide) h
theorem nl_tl31 {a : Nat} (h : a < 2147483648) : nI a < (31 : Int32) ↔ a < 31 := nI_ltI (b := 31) h (by decide)
theorem nl_eq31 {a : Nat} (h : a < 2147483648) : nI a = (31 : Int32) ↔ a = 31 := nI_eq (b := 31) h (by decide)
theorem nl_m32 (a : Nat) : (32 : Int32) * nI a = nI (32 * a) := pk_mul 32 a
theorem nl_al32 (a : Nat) : (32 : Int32) + nI a = nI (32 + a) := nI_add 32 a
theorem nl_ar32 (a : Nat) : nI a + (32 : Int32) = nI (a + 32) := nI_add a 32
theorem nl_sr32 {a : Nat} (h : 32 ≤ a) : nI a - (32 : Int32) = nI (a - 32) := pk_sub h
theorem nl_le32 {a : Nat} (h : a < 2147483648) : (32 : Int32) ≤ nI a ↔ 32 ≤ a := nI_leI (a := 32) (by decide) h
theorem nl_el32 {a : Nat} (h : a < 2147483648) : nI a ≤ (32 : Int32) ↔ a ≤ 32 := nI_leI (b := 32) h (by decide)
theorem nl_lt32 {a : Nat} (h : a < 2147483648) : (32 : Int32) < nI a ↔ 32 < a := nI_ltI (a := 32) (by decide) h
theorem nl_tl32 {a : Nat} (h : a < 2147483648) : nI a < (32 : Int32) ↔ a < 32 := nI_ltI (b := 32) h (by decide)
theorem nl_eq32 {a : Nat} (h : a < 2147483648) : nI a = (32 : Int32) ↔ a = 32 := nI_eq (b := 32) h (by decide)
theorem nl_m40 (a : Nat) : (40 : Int32) * nI a = nI (40 * a) := pk_mul 40 a
theorem nl_al40 (a : Nat) : (40 : Int32) + nI a = nI (40 + a) := nI_add 40 a
theorem nl_ar40 (a : Nat) : nI a + (40 : Int32) = nI (a + 40) := nI_add a 40
theorem nl_sr40 {a : Nat} (h : 40 ≤ a) : nI a - (40 : Int32) = nI (a - 40) := pk_sub h
theorem nl_le40 {a : Nat} (h : a < 2147483648) : (40 : Int32) ≤ nI a ↔ 40 ≤ a := nI_leI (a := 40) (by decide) h
theorem nl_el40 {a : Nat} (h : a < 2147483648) : nI a ≤ (40 : Int32) ↔ a ≤ 40 := nI_leI (b := 40) h (by decide)
theorem nl_lt40 {a : Nat} (h : a < 2147483648) : (40 : Int32) < nI a ↔ 40 < a := nI_ltI (a := 40) (by decide) h
theorem nl_tl40 {a : Nat} (h : a < 2147483648) : nI a < (40 : Int32) ↔ a < 40 := nI_ltI (b := 40) h (by decide)
theorem nl_eq40 {a : Nat} (h : a < 2147483648) : nI a = (40 : Int32) ↔ a = 40 := nI_eq (b := 40) h (by decide)
theorem nl_m72 (a : Nat) : (72 : Int32) * nI a = nI (72 * a) := pk_mul 72 a
theorem nl_al72 (a : Nat) : (72 : Int32) + nI a = nI (72 + a) := nI_add 72 a
theorem nl_ar72 (a : Nat) : nI a + (72 : Int32) = nI (a + 72) := nI_add a 72
theorem nl_sr72 {a : Nat} (h : 72 ≤ a) : nI a - (72 : Int32) = nI (a - 72) := pk_sub h
theorem nl_le72 {a : Nat} (h : a < 2147483648) : (72 : Int32) ≤ nI a ↔ 72 ≤ a := nI_leI (a := 72) (by decide) h
theorem nl_el72 {a : Nat} (h : a < 2147483648) : nI a ≤ (72 : Int32) ↔ a ≤ 72 := nI_leI (b := 72) h (by decide)
theorem nl_lt72 {a : Nat} (h : a < 2147483648) : (72 : Int32) < nI a ↔ 72 < a := nI_ltI (a := 72) (by decide) h
theorem nl_tl72 {a : Nat} (h : a < 2147483648) : nI a < (72 : Int32) ↔ a < 72 := nI_ltI (b := 72) h (by decide)
theorem nl_eq72 {a : Nat} (h : a < 2147483648) : nI a = (72 : Int32) ↔ a = 72 := nI_eq (b := 72) h (by decide)
theorem nl_m108 (a : Nat) : (108 : Int32) * nI a = nI (108 * a) := pk_mul 108 a
theorem nl_al108 (a : Nat) : (108 : Int32) + nI a = nI (108 + a) := nI_add 108 a
theorem nl_ar108 (a : Nat) : nI a + (108 : Int32) = nI (a + 108) := nI_add a 108
theorem nl_sr108 {a : Nat} (h : 108 ≤ a) : nI a - (108 : Int32) = nI (a - 108) := pk_sub h
theorem nl_le108 {a : Nat} (h : a < 2147483648) : (108 : Int32) ≤ nI a ↔ 108 ≤ a := nI_leI (a := 108) (by decide) h
theorem nl_el108 {a : Nat} (h : a < 2147483648) : nI a ≤ (108 : Int32) ↔ a ≤ 108 := nI_leI (b := 108) h (by decide)
theorem nl_lt108 {a : Nat} (h : a < 2147483648) : (108 : Int32) < nI a ↔ 108 < a := nI_ltI (a := 108) (by decide) h
theorem nl_tl108 {a : Nat} (h : a < 2147483648) : nI a < (108 : Int32) ↔ a < 108 := nI_ltI (b := 108) h (by decide)
theorem nl_eq108 {a : Nat} (h : a < 2147483648) : nI a = (108 : Int32) ↔ a = 108 := nI_eq (b := 108) h (by decide)
theorem nl_m200 (a : Nat) : (200 : Int32) * nI a = nI (200 * a) := pk_mul 200 a
theorem nl_al200 (a : Nat) : (200 : Int32) + nI a = nI (200 + a) := nI_add 200 a
theorem nl_ar200 (a : Nat) : nI a + (200 : Int32) = nI (a + 200) := nI_add a 200
theorem nl_sr200 {a : Nat} (h : 200 ≤ a) : nI a - (200 : Int32) = nI (a - 200) := pk_sub h
theorem nl_le200 {a : Nat} (h : a < 2147483648) : (200 : Int32) ≤ nI a ↔ 200 ≤ a := nI_leI (a := 200) (by decide) h
theorem nl_el200 {a : Nat} (h : a < 2147483648) : nI a ≤ (200 : Int32) ↔ a ≤ 200 := nI_leI (b := 200) h (by decide)
theorem nl_lt200 {a : Nat} (h : a < 2147483648) : (200 : Int32) < nI a ↔ 200 < a := nI_ltI (a := 200) (by decide) h
theorem nl_tl200 {a : Nat} (h : a < 2147483648) : nI a < (200 : Int32) ↔ a < 200 := nI_ltI (b := 200) h (by decide)
theorem nl_eq200 {a : Nat} (h : a < 2147483648) : nI a = (200 : Int32) ↔ a = 200 := nI_eq (b := 200) h (by decide)
theorem nl_m255 (a : Nat) : (255 : Int32) * nI a = nI (255 * a) := pk_mul 255 a
theorem nl_al255 (a : Nat) : (255 : Int32) + nI a = nI (255 + a) := nI_add 255 a
theorem nl_ar255 (a : Nat) : nI a + (255 : Int32) = nI (a + 255) := nI_add a 255
theorem nl_sr255 {a : Nat} (h : 255 ≤ a) : nI a - (255 : Int32) = nI (a - 255) := pk_sub h
theorem nl_le255 {a : Nat} (h : a < 2147483648) : (255 : Int32) ≤ nI a ↔ 255 ≤ a := nI_leI (a := 255) (by decide) h
theorem nl_el255 {a : Nat} (h : a < 2147483648) : nI a ≤ (255 : Int32) ↔ a ≤ 255 := nI_leI (b := 255) h (by decide)
theorem nl_lt255 {a : Nat} (h : a < 2147483648) : (255 : Int32) < nI a ↔ 255 < a := nI_ltI (a := 255) (by decide) h
theorem nl_tl255 {a : Nat} (h : a < 2147483648) : nI a < (255 : Int32) ↔ a < 255 := nI_ltI (b := 255) h (by decide)
theorem nl_eq255 {a : Nat} (h : a < 2147483648) : nI a = (255 : Int32) ↔ a = 255 := nI_eq (b := 255) h (by decide)
theorem nl_s27 {a : Nat} (h : a ≤ 27) : (27 : Int32) - nI a = nI (27 - a) := pk_sub (a := 27) h
theorem nl_in {n N : Nat} (h : n < N) (hN : N < 2147483648) : vp_in (nI n) N ↔ True := iff_true_intro (vp_in_nI h hN)
theorem nl_cl {n : Nat} (h : n < 2147483648) : (nI n).toNatClampNeg = n := nI_clamp h
theorem nl_le {a b : Nat} (ha : a < 2147483648) (hb : b < 2147483648) : nI a ≤ nI b ↔ a ≤ b := nI_leI ha hb
theorem nl_lt {a b : Nat} (ha : a < 2147483648) (hb : b < 2147483648) : nI a < nI b ↔ a < b := nI_ltI ha hb
theorem nl_eq {a b : Nat} (ha : a < 2147483648) (hb : b < 2147483648) : nI a = nI b ↔ a = b := nI_eq ha hb
theorem nl_d8 {a : Nat} (ha : a < 2147483648) : nI a / 8 = nI (a / 8) := pk_div ha (by decide) (by decide)
theorem nl_d6 {a : Nat} (ha : a < 2147483648) : nI a / 6 = nI (a / 6) := pk_div ha (by decide) (by decide)
theorem nl_d4 {a : Nat} (ha : a < 2147483648) : nI a / 4 = nI (a / 4) := pk_div ha (by decide) (by decide)
theorem nl_d2 {a : Nat} (ha : a < 2147483648) : nI a / 2 = nI (a / 2) := pk_div ha (by decide) (by decide)
theorem nl_r8 {a : Nat} (ha : a < 2147483648) : nI a - nI a / 8 * 8 = nI (a % 8) := pk_rem ha (by decide) (by decide)
theorem nl_r6 {a : Nat} (ha : a < 2147483648) : nI a - nI a / 6 * 6 = nI (a % 6) := pk_rem ha (by decide) (by decide)
theorem nl_r4 {a : Nat} (ha : a < 2147483648) : nI a - nI a / 4 * 4 = nI (a % 4) := pk_rem ha (by decide) (by decide)
theorem nl_r2 {a : Nat} (ha : a < 2147483648) : nI a - nI a / 2 * 2 = nI (a % 2) := pk_rem ha (by decide) (by decide)
theorem nl_r31 {a : Nat} (ha : a < 2147483648) : nI a - nI a / 31 * 31 = nI (a % 31) := pk_rem ha (by decide) (by decide)
theorem nl_r32 {a : Nat} (ha : a < 2147483648) : nI a - nI a / 32 * 32 = nI (a % 32) := pk_rem ha (by decide) (by decide)
theorem nl_b0 : vp_nar .boolean 0 = 0 := rfl
theorem nl_b1 : vp_nar .boolean 1 = 1 := rfl
/-- a with f 0 .. f (n - 1) written from lo on -/
def ar_cp (a : Nat → Int32) (lo n : Nat) (f : Nat → Int32) : Nat → Int32 := fun i => if lo ≤ i ∧ i < lo + n then f (i - lo) else a i
theorem ar_0 (a : Nat → Int32) (lo : Nat) (f : Nat → Int32) : ar_cp a lo 0 f = a := by
  funext i
  exact if_neg (by omega)
theorem ar_S (a : Nat → Int32) (lo n : Nat) (f : Nat → Int32) : upd (ar_cp a lo n f) (lo + n) (f n) = ar_cp a lo (n + 1) f := by
  funext i
  unfold upd ar_cp
  by_cases h : i = lo + n
  · rw [if_pos h, if_pos (by omega), h, Nat.add_sub_cancel_left]
  · rw [if_neg h]
    by_cases h2 : lo ≤ i ∧ i < lo + n
    · rw [if_pos h2, if_pos (by omega)]
    · rw [if_neg h2, if_neg (by omega)]
theorem ar_S' {a : Nat → Int32} {lo n k : Nat} {f : Nat → Int32} {v : Int32} (hk : k = lo + n) (hv : v = f n) : upd (ar_cp a lo n f) k v = ar_cp a lo (n + 1) f := by
  rw [hk, hv, ar_S]
theorem ar_in (a : Nat → Int32) (lo n : Nat) (f : Nat → Int32) {j : Nat} (h : j < n) : ar_cp a lo n f (lo + j) = f j := by
  unfold ar_cp
  rw [if_pos (by omega), Nat.add_sub_cancel_left]
theorem ar_in' (a : Nat → Int32) {lo n : Nat} (f : Nat → Int32) {i : Nat} (h : lo ≤ i) (h2 : i < lo + n) : ar_cp a lo n f i = f (i - lo) := if_pos ⟨h, h2⟩
theorem ar_out (a : Nat → Int32) {lo n : Nat} (f : Nat → Int32) {i : Nat} (h : i < lo ∨ lo + n ≤ i) : ar_cp a lo n f i = a i := if_neg (by omega)
end
section
section
variable {f_buffered f_clock f_check : Int32} {a_isOpen a_from a_to a_gap a_tolerance a_due a_frames a_frameLength a_frameBytes a_nextCell a_number a_spoiledNumber a_buffer a_cell a_lastSent a_ahead a_which a_isWary a_queueCount a_queue a_inCount a_inCircuit a_inLength a_inBytes a_keptCount a_isSpoiled a_keptNumber a_kept a_counts : Nat → Int32}
theorem xw_feed12 {post : SX → Prop} : ∀ (k i : Nat) (ck : Int32), i + k = 8 → post (f_buffered, f_clock, (cs_it k ck), a_isOpen, a_from, a_to, a_gap, a_tolerance, a_due, a_frames, a_frameLength, a_frameBytes, a_nextCell, a_number, a_spoiledNumber, a_buffer, a_cell, a_lastSent, a_ahead, a_which, a_isWary, a_queueCount, a_queue, a_inCount, a_inCircuit, a_inLength, a_inBytes, a_keptCount, a_isSpoiled, a_keptNumber, a_kept, a_counts) → wX_feed_12 post f_buffered f_clock a_isOpen a_from a_to a_gap a_tolerance a_due a_frames a_frameLength a_frameBytes a_nextCell a_number a_spoiledNumber a_buffer a_cell a_lastSent a_ahead a_which a_isWary a_queueCount a_queue a_inCount a_inCircuit a_inLength a_inBytes a_keptCount a_isSpoiled a_keptNumber a_kept a_counts (k + 1) (nI i) ck := by
  intro k
  induction k with
  | zero =>
    intro i ck hi h
    obtain rfl : i = 8 := by omega
    exact br_t (nI_le (a := 8) (b := 8) (by omega) (by omega)) h
  | succ k ih =>
    intro i ck hi h
    refine br_f (nI_ge (b := 8) (by omega) (by omega)) (br_c (fun hc => ?_) (fun hc => ?_))
    · exact nm_r (e' := cs_f ck) (by unfold cs_f; rw [if_pos ((cs_odd ck).mp hc)]) (nm_r (nI_1 i) (ih (i + 1) (cs_f ck) (by omega) h))
    · exact nm_r (e' := cs_f ck) (by unfold cs_f; rw [if_neg (fun z => hc ((cs_odd ck).mpr z))]) (nm_r (nI_1 i) (ih (i + 1) (cs_f ck) (by omega) h))
theorem xw_feed {post : SX → Prop} (b : Int32) (h : post (f_buffered, f_clock, (cs_it 8 (f_check ^^^ b)), a_isOpen, a_from, a_to, a_gap, a_tolerance, a_due, a_frames, a_frameLength, a_frameBytes, a_nextCell, a_number, a_spoiledNumber, a_buffer, a_cell, a_lastSent, a_ahead, a_which, a_isWary, a_queueCount, a_queue, a_inCount, a_inCircuit, a_inLength, a_inBytes, a_keptCount, a_isSpoiled, a_keptNumber, a_kept, a_counts)) : wpX_feed post (f_buffered, f_clock, f_check, a_isOpen, a_from, a_to, a_gap, a_tolerance, a_due, a_frames, a_frameLength, a_frameBytes, a_nextCell, a_number, a_spoiledNumber, a_buffer, a_cell, a_lastSent, a_ahead, a_which, a_isWary, a_queueCount, a_queue, a_inCount, a_inCircuit, a_inLength, a_inBytes, a_keptCount, a_isSpoiled, a_keptNumber, a_kept, a_counts) b :=
  nm_e ⟨9, xw_feed12 8 0 _ rfl h⟩
theorem xw_pad {post : Int32 → Prop} {f l i : Nat} (hf : f < 16) (hL : a_frameLength f = nI l) (hl : l ≤ 27) (hi : i < 32) (h : post (cd_pad l (fun j => a_frameBytes (27 * f + j)) i)) : wpX_paddedByte post (f_buffered, f_clock, f_check, a_isOpen, a_from, a_to, a_gap, a_tolerance, a_due, a_frames, a_frameLength, a_frameBytes, a_nextCell, a_number, a_spoiledNumber, a_buffer, a_cell, a_lastSent, a_ahead, a_which, a_isWary, a_queueCount, a_queue, a_inCount, a_inCircuit, a_inLength, a_inBytes, a_keptCount, a_isSpoiled, a_keptNumber, a_kept, a_counts) (nI f) (nI i) (nI (8 * cd_n l)) := by
  have hn := cd_n_in hl
  unfold cd_pad at h
  simp (disch := omega) only [wpX_paddedByte, nl_in, nl_cl, hL, nl_le, nl_m27, nI_add, nl_sr5, nl_eq, true_and]
  by_cases z : i < l
  · rw [if_pos z] at h
    exact br_f (by omega) (And.intro (vp_in_nI (by omega) (by decide)) h)
  · rw [if_neg z] at h
    refine br_t (by omega) ?_
    by_cases z2 : i = 8 * cd_n l - 5
    · rw [if_pos z2] at h
      exact br_t z2 h
    · rw [if_neg z2] at h
      exact br_f z2 h
theorem xw_cof7 {post : Int32 → SX → Prop} {f l : Nat} (hf : f < 16) (hL : a_frameLength f = nI l) (hl : l ≤ 27)
    (h : post (cd_crc l (fun j => a_frameBytes (27 * f + j))) (f_buffered, f_clock, (cd_crc l (fun j => a_frameBytes (27 * f + j))), a_isOpen, a_from, a_to, a_gap, a_tolerance, a_due, a_frames, a_frameLength, a_frameBytes, a_nextCell, a_number, a_spoiledNumber, a_buffer, a_cell, a_lastSent, a_ahead, a_which, a_isWary, a_queueCount, a_queue, a_inCount, a_inCircuit, a_inLength, a_inBytes, a_keptCount, a_isSpoiled, a_keptNumber, a_kept, a_counts)) :
    ∀ (d i : Nat), i + d = 8 * cd_n l - 4 → wX_checkOfFrame_7 post (nI f) (nI (8 * cd_n l)) (d + 1) (nI i) f_buffered f_clock (cs_fo (-1) (cd_pad l (fun j => a_frameBytes (27 * f + j))) i) a_isOpen a_from a_to a_gap a_tolerance a_due a_frames a_frameLength a_frameBytes a_nextCell a_number a_spoiledNumber a_buffer a_cell a_lastSent a_ahead a_which a_isWary a_queueCount a_queue a_inCount a_inCircuit a_inLength a_inBytes a_keptCount a_isSpoiled a_keptNumber a_kept a_counts := by
  have hn := cd_n_in hl
  have e4 : nI (8 * cd_n l) - 4 = nI (8 * cd_n l - 4) := nl_sr4 (by omega)
  intro d
  induction d with
  | zero =>
    intro i hi
    obtain rfl : i = 8 * cd_n l - 4 := by omega
    refine br_t ?_ h
    rw [e4]
    exact nI_le (Nat.le_refl _) (by omega)
  | succ d ih =>
    intro i hi
    refine br_f ?_ ?_
    · rw [e4]
      exact nI_ge (by omega) (by omega)
    · exact xw_pad hf hL hl (by omega) (xw_feed _ (nm_r (nI_1 i) (ih (i + 1) (by omega))))
theorem xw_cof {post : Int32 → SX → Prop} {f l : Nat} (hf : f < 16) (hL : a_frameLength f = nI l) (hl : l ≤ 27)
    (h : post (cd_crc l (fun j => a_frameBytes (27 * f + j))) (f_buffered, f_clock, (cd_crc l (fun j => a_frameBytes (27 * f + j))), a_isOpen, a_from, a_to, a_gap, a_tolerance, a_due, a_frames, a_frameLength, a_frameBytes, a_nextCell, a_number, a_spoiledNumber, a_buffer, a_cell, a_lastSent, a_ahead, a_which, a_isWary, a_queueCount, a_queue, a_inCount, a_inCircuit, a_inLength, a_inBytes, a_keptCount, a_isSpoiled, a_keptNumber, a_kept, a_counts)) : wpX_checkOfFrame post (f_buffered, f_clock, f_check, a_isOpen, a_from, a_to, a_gap, a_tolerance, a_due, a_frames, a_frameLength, a_frameBytes, a_nextCell, a_number, a_spoiledNumber, a_buffer, a_cell, a_lastSent, a_ahead, a_which, a_isWary, a_queueCount, a_queue, a_inCount, a_inCircuit, a_inLength, a_inBytes, a_keptCount, a_isSpoiled, a_keptNumber, a_kept, a_counts) (nI f) (nI (8 * cd_n l)) :=
  ⟨_, xw_cof7 hf hL hl h (8 * cd_n l - 4) 0 (by omega)⟩
theorem xw_hc19 {post : Int32 → Prop} {w : Int32} : ∀ (k : Nat) (x : Int32), k ≤ 24 → post (hd_cr (bt w) k x) → wX_headCheck_19 post w (k + 1) x (nI k + (-1)) := by
  intro k
  induction k with
  | zero => intro x _ h; exact br_t (by decide) h
  | succ k ih =>
    intro x hk h
    rw [pk_m1]
    refine br_f (nI_pos (by omega)) (nm_e ?_)
    have hs7 := b_sshr 7 (by decide) x (i := 0) (by decide)
    rw [show nI 7 = (7 : Int32) from rfl, if_pos (by decide)] at hs7
    have hsk := b_sshr k (by omega) w (i := 0) (by decide)
    rw [if_pos (by omega)] at hsk
    have ho : (((x >>> ((7 : Int32) &&& 31)) ^^^ ((w >>> (nI k &&& 31)) &&& 1)) &&& 1) = 1 ↔ (bt x 7 ^^ bt w k) = true := by
      rw [cs_odd, b_xor, b_and, hs7, hsk, show bt 1 0 = true from by decide, Bool.and_true]
      rfl
    refine br_c (fun hc => ?_) (fun hc => ?_)
    · exact nm_r (e' := hd_st x (bt w k)) (by unfold hd_st; rw [if_pos (ho.mp hc)]) (nm_e (ih _ (by omega) h))
    · exact nm_r (e' := hd_st x (bt w k)) (by unfold hd_st; rw [if_neg (fun z => hc (ho.mpr z))]) (nm_e (ih _ (by omega) h))
theorem xw_hc {post : Int32 → Prop} {a b c : Int32} (hb : cd_B b) (hc : cd_B c) (h : post (hd_c a b c)) : wpX_headCheck post a b c := by
  refine nm_e ⟨25, ?_⟩
  have e : hd_cr (bt (((a <<< ((16 : Int32) &&& 31)) ||| (b <<< ((8 : Int32) &&& 31))) ||| c)) 24 0 = hd_c a b c := hd_cr_cg 24 0 (fun i hi => hd_word hb hc hi)
  exact xw_hc19 24 0 (by decide) (e ▸ h)
theorem xw_ef47 {post : SX → Prop} {f : Nat} (hf : f ≤ 14) (h : post (f_buffered, f_clock, f_check, a_isOpen, a_from, a_to, a_gap, a_tolerance, a_due, a_frames, a_frameLength, (ar_cp a_frameBytes (27 * f) 27 (fun j => a_frameBytes (27 * f + 27 + j))), a_nextCell, a_number, a_spoiledNumber, a_buffer, a_cell, a_lastSent, a_ahead, a_which, a_isWary, a_queueCount, a_queue, a_inCount, a_inCircuit, a_inLength, a_inBytes, a_keptCount, a_isSpoiled, a_keptNumber, a_kept, a_counts)) :
    ∀ (d i : Nat) (fb : Nat → Int32), i + d = 27 → fb = ar_cp a_frameBytes (27 * f) i (fun j => a_frameBytes (27 * f + 27 + j)) → wX_endFrame_47 post (nI f) f_buffered f_clock f_check (d + 1) (nI i) a_isOpen a_from a_to a_gap a_tolerance a_due a_frames a_frameLength fb a_nextCell a_number a_spoiledNumber a_buffer a_cell a_lastSent a_ahead a_which a_isWary a_queueCount a_queue a_inCount a_inCircuit a_inLength a_inBytes a_keptCount a_isSpoiled a_keptNumber a_kept a_counts := by
  intro d
  induction d with
  | zero =>
    intro i fb hi hfb
    obtain rfl : i = 27 := by omega
    subst hfb
    exact br_t (nI_le (a := 27) (b := 27) (by omega) (by omega)) h
  | succ d ih =>
    intro i fb hi hfb
    have e1 : 27 * nI f + 27 + nI i = nI (27 * f + 27 + i) := by rw [nl_m27, nl_ar27, nI_add]
    have e2 : 27 * nI f + nI i = nI (27 * f + i) := by rw [nl_m27, nI_add]
    refine br_f (nI_ge (b := 27) (by omega) (by omega)) ⟨pk_in _ _ (by omega) e1, pk_in _ _ (by omega) e2, nm_e (nm_r (nI_1 i) (ih (i + 1) _ (by omega) ?_))⟩
    rw [e1, e2, nl_cl (by omega), nl_cl (by omega), hfb]
    exact ar_S' rfl (ar_out _ _ (by omega))
theorem xw_endFrame {post : SX → Prop} {c : Nat} (hc : c < 8) (h : post (f_buffered, f_clock, f_check, a_isOpen, a_from, a_to, a_gap, a_tolerance, a_due, (upd a_frames c (a_frames c - 1)), (upd a_frameLength (2 * c) (a_frameLength (2 * c + 1))), (ar_cp a_frameBytes (27 * (2 * c)) 27 (fun j => a_frameBytes (27 * (2 * c) + 27 + j))), (upd a_nextCell c 0), (upd a_number c (a_number c + 1)), a_spoiledNumber, a_buffer, a_cell, a_lastSent, a_ahead, a_which, a_isWary, a_queueCount, a_queue, a_inCount, a_inCircuit, a_inLength, a_inBytes, a_keptCount, a_isSpoiled, a_keptNumber, a_kept, a_counts)) : wpX_endFrame post (f_buffered, f_clock, f_check, a_isOpen, a_from, a_to, a_gap, a_tolerance, a_due, a_frames, a_frameLength, a_frameBytes, a_nextCell, a_number, a_spoiledNumber, a_buffer, a_cell, a_lastSent, a_ahead, a_which, a_isWary, a_queueCount, a_queue, a_inCount, a_inCircuit, a_inLength, a_inBytes, a_keptCount, a_isSpoiled, a_keptNumber, a_kept, a_counts) (nI c) := by
  have ec : (nI c).toNatClampNeg = c := nl_cl (by omega)
  have i8 : vp_in (nI c) 8 := vp_in_nI hc (by decide)
  unfold wpX_endFrame
  dsimp only
  rw [ec]
  refine ⟨i8, nm_e ⟨i8, i8, nm_e ⟨i8, i8, nm_e (nm_r (nl_m2 c) ⟨pk_in _ _ (by omega) (nl_ar1 _), pk_in (2 * c) _ (by omega), nm_r (e' := upd a_frameLength (2 * c) (a_frameLength (2 * c + 1))) (by rw [nl_ar1, nl_cl (by omega), nl_cl (by omega)]) ⟨28, ?_⟩⟩)⟩⟩⟩
  exact xw_ef47 (by omega) h 27 0 _ rfl (ar_0 _ _ _).symm
theorem xw_forget {post : SX → Prop} {c : Nat} (hc : c < 8) (h : post (f_buffered, f_clock, f_check, a_isOpen, a_from, a_to, a_gap, a_tolerance, a_due, a_frames, a_frameLength, a_frameBytes, a_nextCell, a_number, a_spoiledNumber, a_buffer, a_cell, a_lastSent, a_ahead, a_which, a_isWary, a_queueCount, a_queue, a_inCount, a_inCircuit, a_inLength, a_inBytes, (upd a_keptCount c 0), (upd a_isSpoiled c 0), a_keptNumber, a_kept, a_counts)) : wpX_forget post (f_buffered, f_clock, f_check, a_isOpen, a_from, a_to, a_gap, a_tolerance, a_due, a_frames, a_frameLength, a_frameBytes, a_nextCell, a_number, a_spoiledNumber, a_buffer, a_cell, a_lastSent, a_ahead, a_which, a_isWary, a_queueCount, a_queue, a_inCount, a_inCircuit, a_inLength, a_inBytes, a_keptCount, a_isSpoiled, a_keptNumber, a_kept, a_counts) (nI c) := by
  have ec : (nI c).toNatClampNeg = c := nl_cl (by omega)
  have i8 : vp_in (nI c) 8 := vp_in_nI hc (by decide)
  unfold wpX_forget
  dsimp only
  rw [ec]
  exact ⟨i8, nm_e ⟨i8, nm_r (by rw [nl_b0]) h⟩⟩
end
end
section
theorem xm_h8 : ∀ c, c < 8 → ∀ k, k < 8 → ((nI c <<< ((4 : Int32) &&& 31)) ||| 8) ||| nI k = nI (16 * c + 8 + k) := by decide +kernel
theorem xm_h0 : ∀ c, c < 8 → ∀ k, k < 8 → ((nI c <<< ((4 : Int32) &&& 31)) ||| 0) ||| nI k = nI (16 * c + 0 + k) := by decide +kernel
theorem xm_l8 : ∀ c, c < 8 → ∀ k, k < 8 → ¬ (nI (16 * c + 8 + k) &&& 8) = 0 := by decide +kernel
theorem xm_l0 : ∀ c, c < 8 → ∀ k, k < 8 → (nI (16 * c + 0 + k) &&& 8) = 0 := by decide +kernel
theorem xm_k8 : ∀ c, c < 8 → ∀ k, k < 8 → (nI (16 * c + 8 + k) &&& 7) = nI k := by decide +kernel
theorem xm_k0 : ∀ c, c < 8 → ∀ k, k < 8 → (nI (16 * c + 0 + k) &&& 7) = nI k := by decide +kernel
theorem xm_c {c z k : Nat} (hc : c < 8) (hz : z + k < 16) : nI (16 * c + z + k) >>> ((4 : Int32) &&& 31) = nI c := by
  rw [pk_shrN (by omega) _ 4 (by decide)]
  congr 1
  omega
theorem xm_n1 {m : Nat} (h : m < 65536) : (nI m >>> ((8 : Int32) &&& 31)) &&& 255 = nI (m / 256) := by
  rw [pk_shrN (by omega) _ 8 (by decide), pk_andN (by omega) 8 (by decide)]
  congr 1
  omega
theorem xm_n2 {m : Nat} (h : m < 65536) : nI m &&& 255 = nI (m % 256) := pk_andN (by omega) 8 (by decide)
theorem xm_or (a b : Nat) : nI a ||| nI b = nI (a ||| b) := by
  apply Int32.toBitVec_inj.1
  show BitVec.ofNat 32 a ||| BitVec.ofNat 32 b = BitVec.ofNat 32 (a ||| b)
  apply BitVec.eq_of_getLsbD_eq
  intro i hi
  simp [hi]
theorem xm_own {m : Nat} (h : m < 65536) : (nI (m / 256) <<< ((8 : Int32) &&& 31)) ||| nI (m % 256) = nI m := by
  rw [pk_shlN _ 8 (by decide) (by omega), xm_or]
  congr 1
  have := Nat.shiftLeft_add_eq_or_of_lt (i := 8) (b := m % 256) (by omega) (m / 256)
  rw [Nat.shiftLeft_eq] at this
  rw [← this]
  omega
/-- the head's first byte -/
def xm_hd (c k l : Nat) : Nat := 16 * c + (if k + 1 = cd_n l then 8 else 0) + k
/-- the head and content of cell k of a frame -/
def xm_ce (a : Nat → Int32) (c k l m : Nat) (b : Nat → Int32) : Nat → Int32 :=
  ar_cp (upd (upd (upd (upd a 0 (nI (xm_hd c k l))) 1 (nI (m / 256))) 2 (nI (m % 256))) 3 (hd_c (nI (xm_hd c k l)) (nI (m / 256)) (nI (m % 256)))) 4 8 (fun i => cd_ct l b (8 * k + i))
theorem xm_tb : ∀ p, p < 96 → (nI p >>> ((3 : Int32) &&& 31)) = nI (p / 8) ∧ ((1 : Int32) <<< ((nI p &&& 7) &&& 31)) = nI (2 ^ (p % 8)) := by decide +kernel
section
variable {f_buffered f_clock f_check : Int32} {a_isOpen a_from a_to a_gap a_tolerance a_due a_frames a_frameLength a_frameBytes a_nextCell a_number a_spoiledNumber a_buffer a_cell a_lastSent a_ahead a_which a_isWary a_queueCount a_queue a_inCount a_inCircuit a_inLength a_inBytes a_keptCount a_isSpoiled a_keptNumber a_kept a_counts : Nat → Int32}
theorem xw_mk129 {post : SX → Prop} {c k l : Nat} {cell : Nat → Int32} (hc : c < 8) (hL : a_frameLength (2 * c) = nI l) (hl : l ≤ 27) (hk : k < cd_n l) (hK : a_nextCell c = nI k)
    (hE : k + 1 = cd_n l → post (f_buffered, f_clock, f_check, a_isOpen, a_from, a_to, a_gap, a_tolerance, a_due, (upd a_frames c (a_frames c - 1)), (upd a_frameLength (2 * c) (a_frameLength (2 * c + 1))), (ar_cp a_frameBytes (27 * (2 * c)) 27 (fun j => a_frameBytes (27 * (2 * c) + 27 + j))), (upd (upd a_nextCell c (nI (k + 1))) c 0), (upd a_number c (a_number c + 1)), a_spoiledNumber, a_buffer, (ar_cp cell 4 8 (fun i => cd_ct l (fun j => a_frameBytes (27 * (2 * c) + j)) (8 * k + i))), a_lastSent, a_ahead, a_which, a_isWary, a_queueCount, a_queue, a_inCount, a_inCircuit, a_inLength, a_inBytes, a_keptCount, a_isSpoiled, a_keptNumber, a_kept, a_counts))
    (hF : k + 1 ≠ cd_n l → post (f_buffered, f_clock, f_check, a_isOpen, a_from, a_to, a_gap, a_tolerance, a_due, a_frames, a_frameLength, a_frameBytes, (upd a_nextCell c (nI (k + 1))), a_number, a_spoiledNumber, a_buffer, (ar_cp cell 4 8 (fun i => cd_ct l (fun j => a_frameBytes (27 * (2 * c) + j)) (8 * k + i))), a_lastSent, a_ahead, a_which, a_isWary, a_queueCount, a_queue, a_inCount, a_inCircuit, a_inLength, a_inBytes, a_keptCount, a_isSpoiled, a_keptNumber, a_kept, a_counts)) :
    ∀ (d i : Nat) (ce : Nat → Int32), i + d = 8 → ce = ar_cp cell 4 i (fun i => cd_ct l (fun j => a_frameBytes (27 * (2 * c) + j)) (8 * k + i)) → wX_makeCell_129 post (nI c) (nI (2 * c)) (nI (cd_n l)) (nI k) (nI (8 * cd_n l)) (cd_crc l (fun j => a_frameBytes (27 * (2 * c) + j))) f_buffered f_clock f_check (d + 1) (nI i) a_isOpen a_from a_to a_gap a_tolerance a_due a_frames a_frameLength a_frameBytes a_nextCell a_number a_spoiledNumber a_buffer ce a_lastSent a_ahead a_which a_isWary a_queueCount a_queue a_inCount a_inCircuit a_inLength a_inBytes a_keptCount a_isSpoiled a_keptNumber a_kept a_counts := by
  have hn := cd_n_in hl
  have ec : (nI c).toNatClampNeg = c := nl_cl (by omega)
  have i8 : vp_in (nI c) 8 := vp_in_nI hc (by decide)
  intro d
  induction d with
  | zero =>
    intro i ce hi hce
    obtain rfl : i = 8 := by omega
    subst hce
    refine br_t (nI_le (a := 8) (b := 8) (by omega) (by omega)) ⟨i8, i8, nm_r (e' := upd a_nextCell c (nI (k + 1))) (by rw [ec, hK, nI_1]) ⟨i8, ?_⟩⟩
    rw [ec, pk_us]
    refine pk_eq (k + 1) (cd_n l) (fun z => xw_endFrame hc (hE z)) hF
  | succ d ih =>
    intro i ce hi hce
    have e1 : 8 * nI k + nI i = nI (8 * k + i) := by rw [nl_m8, nI_add]
    have e2 : nI (8 * cd_n l) - 4 = nI (8 * cd_n l - 4) := nl_sr4 (by omega)
    have e3 : 4 + nI i = nI (4 + i) := nl_al4 i
    refine br_f (nI_ge (b := 8) (by omega) (by omega)) (nm_r e1 ?_)
    rw [e2, e3]
    refine pk_lt (8 * k + i) (8 * cd_n l - 4) (fun z => ?_) (fun z => ?_)
    · refine xw_pad (by omega) hL hl (by omega) ⟨vp_in_nI (by omega) (by decide), nm_e (nm_r (nI_1 i) (ih (i + 1) _ (by omega) ?_))⟩
      rw [nl_cl (by omega), hce]
      exact ar_S' rfl (by unfold cd_ct; rw [if_pos z])
    · refine ⟨vp_in_nI (by omega) (by decide), nm_e (nm_r (nI_1 i) (ih (i + 1) _ (by omega) ?_))⟩
      have e5 : 8 * (nI (8 * cd_n l) - 1 - nI (8 * k + i)) = nI (8 * (8 * cd_n l - 1 - (8 * k + i))) := by rw [nl_sr1 (by omega), pk_sub (by omega), nl_m8]
      rw [nl_cl (by omega), hce, e5]
      exact ar_S' rfl (by show _ = cd_ct _ _ _; unfold cd_ct; rw [if_neg (by omega)]; rfl)
theorem xw_makeCell {post : SX → Prop} {c k l m : Nat} (hc : c < 8) (hL : a_frameLength (2 * c) = nI l) (hl : l ≤ 27) (hk : k < cd_n l) (hK : a_nextCell c = nI k) (hM : a_number c = nI m) (hm : m < 65536)
    (hE : k + 1 = cd_n l → post (f_buffered, f_clock, (cd_crc l (fun j => a_frameBytes (27 * (2 * c) + j))), a_isOpen, a_from, a_to, a_gap, a_tolerance, a_due, (upd a_frames c (a_frames c - 1)), (upd a_frameLength (2 * c) (a_frameLength (2 * c + 1))), (ar_cp a_frameBytes (27 * (2 * c)) 27 (fun j => a_frameBytes (27 * (2 * c) + 27 + j))), (upd (upd a_nextCell c (nI (k + 1))) c 0), (upd a_number c (a_number c + 1)), a_spoiledNumber, a_buffer, (xm_ce a_cell c k l m (fun j => a_frameBytes (27 * (2 * c) + j))), a_lastSent, a_ahead, a_which, a_isWary, a_queueCount, a_queue, a_inCount, a_inCircuit, a_inLength, a_inBytes, a_keptCount, a_isSpoiled, a_keptNumber, a_kept, a_counts))
    (hF : k + 1 ≠ cd_n l → post (f_buffered, f_clock, (cd_crc l (fun j => a_frameBytes (27 * (2 * c) + j))), a_isOpen, a_from, a_to, a_gap, a_tolerance, a_due, a_frames, a_frameLength, a_frameBytes, (upd a_nextCell c (nI (k + 1))), a_number, a_spoiledNumber, a_buffer, (xm_ce a_cell c k l m (fun j => a_frameBytes (27 * (2 * c) + j))), a_lastSent, a_ahead, a_which, a_isWary, a_queueCount, a_queue, a_inCount, a_inCircuit, a_inLength, a_inBytes, a_keptCount, a_isSpoiled, a_keptNumber, a_kept, a_counts)) : wpX_makeCell post (f_buffered, f_clock, f_check, a_isOpen, a_from, a_to, a_gap, a_tolerance, a_due, a_frames, a_frameLength, a_frameBytes, a_nextCell, a_number, a_spoiledNumber, a_buffer, a_cell, a_lastSent, a_ahead, a_which, a_isWary, a_queueCount, a_queue, a_inCount, a_inCircuit, a_inLength, a_inBytes, a_keptCount, a_isSpoiled, a_keptNumber, a_kept, a_counts) (nI c) := by
  have hn := cd_n_in hl
  have ec : (nI c).toNatClampNeg = c := nl_cl (by omega)
  have i8 : vp_in (nI c) 8 := vp_in_nI hc (by decide)
  have e12 : (nI l + 12) / 8 = nI (cd_n l) := by rw [nl_ar12, nl_d8 (by omega)]; rfl
  unfold wpX_makeCell wpX_cellsOf
  dsimp only
  rw [ec]
  refine nm_r (nl_m2 c) ⟨pk_in (2 * c) _ (by omega), by decide, i8, ?_⟩
  rw [nl_cl (by omega), hL, e12]
  refine nm_r hK (nm_r (nl_m8 _) (xw_cof (by omega) hL hl ?_))
  dsimp only
  refine pk_eq k (cd_n l - 1) (fun z => ?_) (fun z => ?_) rfl (nl_sr1 (by omega))
  · have e0 : ((nI c <<< ((4 : Int32) &&& 31)) ||| 8) ||| nI k = nI (xm_hd c k l) := by unfold xm_hd; rw [if_pos (by omega)]; exact xm_h8 c hc k (by omega)
    refine ⟨pk_in 0 _ (by omega), nm_r (e' := upd a_cell 0 (nI (xm_hd c k l))) (by rw [e0]; rfl) ⟨i8, nm_r (e' := upd (upd a_cell 0 (nI (xm_hd c k l))) 1 (nI (m / 256))) (by rw [ec, hM, xm_n1 hm]) ⟨i8, nm_r (e' := upd (upd (upd a_cell 0 (nI (xm_hd c k l))) 1 (nI (m / 256))) 2 (nI (m % 256))) (by rw [ec, hM, xm_n2 hm]) ?_⟩⟩⟩
    refine xw_hc (cd_Bn (n := m / 256) (by omega)) (cd_Bn (n := m % 256) (by omega)) (nm_e ⟨9, ?_⟩)
    exact xw_mk129 hc hL hl hk hK hE hF 8 0 _ rfl (ar_0 _ _ _).symm
  · have e0 : ((nI c <<< ((4 : Int32) &&& 31)) ||| 0) ||| nI k = nI (xm_hd c k l) := by unfold xm_hd; rw [if_neg (by omega)]; exact xm_h0 c hc k (by omega)
    refine ⟨pk_in 0 _ (by omega), nm_r (e' := upd a_cell 0 (nI (xm_hd c k l))) (by rw [e0]; rfl) ⟨i8, nm_r (e' := upd (upd a_cell 0 (nI (xm_hd c k l))) 1 (nI (m / 256))) (by rw [ec, hM, xm_n1 hm]) ⟨i8, nm_r (e' := upd (upd (upd a_cell 0 (nI (xm_hd c k l))) 1 (nI (m / 256))) 2 (nI (m % 256))) (by rw [ec, hM, xm_n2 hm]) ?_⟩⟩⟩
    refine xw_hc (cd_Bn (n := m / 256) (by omega)) (cd_Bn (n := m % 256) (by omega)) (nm_e ⟨9, ?_⟩)
    exact xw_mk129 hc hL hl hk hK hE hF 8 0 _ rfl (ar_0 _ _ _).symm
theorem xw_tb {post : SX → Prop} {p : Nat} (hp : p < 96) (h : post (f_buffered, f_clock, f_check, a_isOpen, a_from, a_to, a_gap, a_tolerance, a_due, a_frames, a_frameLength, a_frameBytes, a_nextCell, a_number, a_spoiledNumber, a_buffer, (hd_fl a_cell p), a_lastSent, a_ahead, a_which, a_isWary, a_queueCount, a_queue, a_inCount, a_inCircuit, a_inLength, a_inBytes, a_keptCount, a_isSpoiled, a_keptNumber, a_kept, a_counts)) : wpX_turnBit post (f_buffered, f_clock, f_check, a_isOpen, a_from, a_to, a_gap, a_tolerance, a_due, a_frames, a_frameLength, a_frameBytes, a_nextCell, a_number, a_spoiledNumber, a_buffer, a_cell, a_lastSent, a_ahead, a_which, a_isWary, a_queueCount, a_queue, a_inCount, a_inCircuit, a_inLength, a_inBytes, a_keptCount, a_isSpoiled, a_keptNumber, a_kept, a_counts) (nI p) := by
  obtain ⟨e1, e2⟩ := xm_tb p hp
  unfold wpX_turnBit
  dsimp only
  rw [e1, e2, nl_cl (by omega)]
  exact ⟨pk_in (p / 8) _ (by omega), pk_in (p / 8) _ (by omega), nm_e h⟩
end
/-- the bits that are turned ahead -/
def xm_tu (a w : Nat) (ce : Nat → Int32) : Nat → Int32 :=
  if a = 1 then hd_fl ce (w % 32) else if a = 2 then hd_fl (hd_fl ce (w % 32)) ((w % 32 + 1 + w / 32 % 31) % 32) else if a = 3 then hd_fl ce (32 + w % 64) else ce
section
variable {f_buffered f_clock f_check : Int32} {a_isOpen a_from a_to a_gap a_tolerance a_due a_frames a_frameLength a_frameBytes a_nextCell a_number a_spoiledNumber a_buffer a_cell a_lastSent a_ahead a_which a_isWary a_queueCount a_queue a_inCount a_inCircuit a_inLength a_inBytes a_keptCount a_isSpoiled a_keptNumber a_kept a_counts : Nat → Int32}
theorem xw_t69 {post : SX → Prop} {s a w : Nat} (hs : s < 4) (ha : a ≤ 3) (hA : a_ahead s = nI a) (hw : w < 1024)
    (h : post (f_buffered, f_clock, f_check, a_isOpen, a_from, a_to, a_gap, a_tolerance, a_due, a_frames, a_frameLength, a_frameBytes, a_nextCell, a_number, a_spoiledNumber, a_buffer, (if a = 3 then hd_fl a_cell (32 + w % 64) else a_cell), a_lastSent, (upd a_ahead s 0), a_which, a_isWary, a_queueCount, a_queue, a_inCount, a_inCircuit, a_inLength, a_inBytes, a_keptCount, a_isSpoiled, a_keptNumber, a_kept, a_counts)) : wX_turnBits_69 post (nI s) (nI w) f_buffered f_clock f_check a_isOpen a_from a_to a_gap a_tolerance a_due a_frames a_frameLength a_frameBytes a_nextCell a_number a_spoiledNumber a_buffer a_cell a_lastSent a_ahead a_which a_isWary a_queueCount a_queue a_inCount a_inCircuit a_inLength a_inBytes a_keptCount a_isSpoiled a_keptNumber a_kept a_counts := by
  have ec : (nI s).toNatClampNeg = s := nl_cl (by omega)
  have i4 : vp_in (nI s) 4 := vp_in_nI hs (by decide)
  unfold wX_turnBits_69
  rw [ec, hA]
  refine ⟨i4, pk_eq a 3 (fun z => ?_) (fun z => ?_)⟩
  · rw [if_pos z] at h
    rw [pk_andN (by omega) 6 (by decide), nl_al32]
    exact xw_tb (by omega) ⟨i4, nm_e h⟩
  · rw [if_neg z] at h
    exact ⟨i4, nm_e h⟩
theorem xw_t39 {post : SX → Prop} {s a w : Nat} (hs : s < 4) (ha : a ≤ 3) (hA : a_ahead s = nI a) (hw : w < 1024)
    (h : post (f_buffered, f_clock, f_check, a_isOpen, a_from, a_to, a_gap, a_tolerance, a_due, a_frames, a_frameLength, a_frameBytes, a_nextCell, a_number, a_spoiledNumber, a_buffer, (if a = 2 then hd_fl a_cell ((w % 32 + 1 + w / 32 % 31) % 32) else if a = 3 then hd_fl a_cell (32 + w % 64) else a_cell), a_lastSent, (upd a_ahead s 0), a_which, a_isWary, a_queueCount, a_queue, a_inCount, a_inCircuit, a_inLength, a_inBytes, a_keptCount, a_isSpoiled, a_keptNumber, a_kept, a_counts)) : wX_turnBits_39 post (nI s) (nI w) f_buffered f_clock f_check a_isOpen a_from a_to a_gap a_tolerance a_due a_frames a_frameLength a_frameBytes a_nextCell a_number a_spoiledNumber a_buffer a_cell a_lastSent a_ahead a_which a_isWary a_queueCount a_queue a_inCount a_inCircuit a_inLength a_inBytes a_keptCount a_isSpoiled a_keptNumber a_kept a_counts := by
  have ec : (nI s).toNatClampNeg = s := nl_cl (by omega)
  have i4 : vp_in (nI s) 4 := vp_in_nI hs (by decide)
  unfold wX_turnBits_39
  rw [ec, hA]
  refine ⟨i4, pk_eq a 2 (fun z => ?_) (fun z => ?_)⟩
  · rw [if_pos z] at h
    have e1 : ((((nI w &&& 31) + 1) + ((nI w >>> ((5 : Int32) &&& 31)) - (nI w >>> ((5 : Int32) &&& 31)) / 31 * 31)) &&& 31) = nI ((w % 32 + 1 + w / 32 % 31) % 32) := by
      rw [pk_andN (by omega) 5 (by decide), pk_shrN (by omega) _ 5 (by decide), nl_r31 (by omega), nl_ar1, nI_add, pk_andN (by omega) 5 (by decide)]
    rw [e1]
    refine ⟨by decide, xw_tb (by omega) (xw_t69 hs ha hA hw ?_)⟩
    rw [if_neg (by omega)]
    exact h
  · rw [if_neg z] at h
    exact xw_t69 hs ha hA hw h
theorem xw_turnBits {post : SX → Prop} {s a w : Nat} (hs : s < 4) (ha : a ≤ 3) (hA : a_ahead s = nI a) (hw : a_which s &&& 1023 = nI w) (hw2 : w < 1024)
    (h : post (f_buffered, f_clock, f_check, a_isOpen, a_from, a_to, a_gap, a_tolerance, a_due, a_frames, a_frameLength, a_frameBytes, a_nextCell, a_number, a_spoiledNumber, a_buffer, (xm_tu a w a_cell), a_lastSent, (upd a_ahead s 0), a_which, a_isWary, a_queueCount, a_queue, a_inCount, a_inCircuit, a_inLength, a_inBytes, a_keptCount, a_isSpoiled, a_keptNumber, a_kept, a_counts)) : wpX_turnBits post (f_buffered, f_clock, f_check, a_isOpen, a_from, a_to, a_gap, a_tolerance, a_due, a_frames, a_frameLength, a_frameBytes, a_nextCell, a_number, a_spoiledNumber, a_buffer, a_cell, a_lastSent, a_ahead, a_which, a_isWary, a_queueCount, a_queue, a_inCount, a_inCircuit, a_inLength, a_inBytes, a_keptCount, a_isSpoiled, a_keptNumber, a_kept, a_counts) (nI s) := by
  have ec : (nI s).toNatClampNeg = s := nl_cl (by omega)
  have i4 : vp_in (nI s) 4 := vp_in_nI hs (by decide)
  unfold xm_tu at h
  unfold wpX_turnBits
  dsimp only
  rw [ec, hA]
  refine ⟨i4, nm_r hw ⟨i4, pk_eq a 1 (fun z => ?_) (fun z => ⟨i4, pk_eq a 2 (fun z2 => ?_) (fun z2 => ?_)⟩)⟩⟩
  · unfold wX_turnBits_31
    rw [pk_andN (by omega) 5 (by decide)]
    refine xw_tb (by omega) (xw_t39 hs ha hA hw2 ?_)
    rw [if_pos z] at h
    rw [if_neg (by omega), if_neg (by omega)]
    exact h
  · unfold wX_turnBits_31
    rw [pk_andN (by omega) 5 (by decide)]
    refine xw_tb (by omega) (xw_t39 hs ha hA hw2 ?_)
    rw [if_neg z, if_pos z2] at h
    rw [if_pos z2]
    exact h
  · refine xw_t39 hs ha hA hw2 ?_
    rw [if_neg z, if_neg z2] at h
    rw [if_neg z2]
    exact h
end
/-- how makeCell moves a circuit on -/
def xm_adv (c k l : Nat) (a_nextCell nc a_number nu a_frames fr a_frameLength fl a_frameBytes fb : Nat → Int32) : Prop :=
  (k + 1 = cd_n l → nc = upd (upd a_nextCell c (nI (k + 1))) c 0 ∧ nu = upd a_number c (a_number c + 1) ∧ fr = upd a_frames c (a_frames c - 1) ∧ fl = upd a_frameLength (2 * c) (a_frameLength (2 * c + 1)) ∧ fb = ar_cp a_frameBytes (27 * (2 * c)) 27 (fun j => a_frameBytes (27 * (2 * c) + 27 + j))) ∧
  (k + 1 ≠ cd_n l → nc = upd a_nextCell c (nI (k + 1)) ∧ nu = a_number ∧ fr = a_frames ∧ fl = a_frameLength ∧ fb = a_frameBytes)
section
variable {f_buffered f_clock f_check : Int32} {a_isOpen a_from a_to a_gap a_tolerance a_due a_frames a_frameLength a_frameBytes a_nextCell a_number a_spoiledNumber a_buffer a_cell a_lastSent a_ahead a_which a_isWary a_queueCount a_queue a_inCount a_inCircuit a_inLength a_inBytes a_keptCount a_isSpoiled a_keptNumber a_kept a_counts : Nat → Int32}
theorem xw_make {post : SX → Prop} {c k l m : Nat} (hc : c < 8) (hL : a_frameLength (2 * c) = nI l) (hl : l ≤ 27) (hk : k < cd_n l) (hK : a_nextCell c = nI k) (hM : a_number c = nI m) (hm : m < 65536)
    (H : ∀ nc nu fr fl fb ck, xm_adv c k l a_nextCell nc a_number nu a_frames fr a_frameLength fl a_frameBytes fb → post (f_buffered, f_clock, ck, a_isOpen, a_from, a_to, a_gap, a_tolerance, a_due, fr, fl, fb, nc, nu, a_spoiledNumber, a_buffer, (xm_ce a_cell c k l m (fun j => a_frameBytes (27 * (2 * c) + j))), a_lastSent, a_ahead, a_which, a_isWary, a_queueCount, a_queue, a_inCount, a_inCircuit, a_inLength, a_inBytes, a_keptCount, a_isSpoiled, a_keptNumber, a_kept, a_counts)) : wpX_makeCell post (f_buffered, f_clock, f_check, a_isOpen, a_from, a_to, a_gap, a_tolerance, a_due, a_frames, a_frameLength, a_frameBytes, a_nextCell, a_number, a_spoiledNumber, a_buffer, a_cell, a_lastSent, a_ahead, a_which, a_isWary, a_queueCount, a_queue, a_inCount, a_inCircuit, a_inLength, a_inBytes, a_keptCount, a_isSpoiled, a_keptNumber, a_kept, a_counts) (nI c) :=
  xw_makeCell hc hL hl hk hK hM hm
    (fun z => H _ _ _ _ _ _ ⟨fun _ => ⟨rfl, rfl, rfl, rfl, rfl⟩, fun g => absurd z g⟩)
    (fun z => H _ _ _ _ _ _ ⟨fun g => absurd g z, fun _ => ⟨rfl, rfl, rfl, rfl, rfl⟩⟩)
end
end
section
section
variable {f_buffered f_clock f_check : Int32} {a_isOpen a_from a_to a_gap a_tolerance a_due a_frames a_frameLength a_frameBytes a_nextCell a_number a_spoiledNumber a_buffer a_cell a_lastSent a_ahead a_which a_isWary a_queueCount a_queue a_inCount a_inCircuit a_inLength a_inBytes a_keptCount a_isSpoiled a_keptNumber a_kept a_counts : Nat → Int32}
theorem xw_woh {post : Int32 → Prop} (h1 : cd_B (a_cell 1)) (h2 : cd_B (a_cell 2)) (h : post (hd_wr a_cell)) : wpX_wrongOfHead post (f_buffered, f_clock, f_check, a_isOpen, a_from, a_to, a_gap, a_tolerance, a_due, a_frames, a_frameLength, a_frameBytes, a_nextCell, a_number, a_spoiledNumber, a_buffer, a_cell, a_lastSent, a_ahead, a_which, a_isWary, a_queueCount, a_queue, a_inCount, a_inCircuit, a_inLength, a_inBytes, a_keptCount, a_isSpoiled, a_keptNumber, a_kept, a_counts) := by
  unfold wpX_wrongOfHead
  exact xw_hc h1 h2 h
theorem xm_fB {a : Nat → Int32} {p i : Nat} (h : cd_B (a i)) : cd_B (hd_fl a p i) := by
  rw [hd_fl_at]
  exact cd_Bx h (cd_Be p i)
theorem xw_im46 {post : Int32 → SX → Prop} {t : Int32} (ht : ¬ t = 0) (h1 : cd_B (a_cell 1)) (h2 : cd_B (a_cell 2))
    (hN : (∀ q, q < 32 → ¬ hd_wr (hd_fl a_cell q) = 0) → post 0 (f_buffered, f_clock, f_check, a_isOpen, a_from, a_to, a_gap, a_tolerance, a_due, a_frames, a_frameLength, a_frameBytes, a_nextCell, a_number, a_spoiledNumber, a_buffer, a_cell, a_lastSent, a_ahead, a_which, a_isWary, a_queueCount, a_queue, a_inCount, a_inCircuit, a_inLength, a_inBytes, a_keptCount, a_isSpoiled, a_keptNumber, a_kept, a_counts))
    (hY : ∀ p, p < 32 → hd_wr (hd_fl a_cell p) = 0 → (∀ q, q < p → ¬ hd_wr (hd_fl a_cell q) = 0) → post 1 (f_buffered, f_clock, f_check, a_isOpen, a_from, a_to, a_gap, a_tolerance, a_due, a_frames, a_frameLength, a_frameBytes, a_nextCell, a_number, a_spoiledNumber, a_buffer, (hd_fl a_cell p), a_lastSent, a_ahead, a_which, a_isWary, a_queueCount, a_queue, a_inCount, a_inCircuit, a_inLength, a_inBytes, a_keptCount, a_isSpoiled, a_keptNumber, a_kept, a_counts)) :
    ∀ (d i : Nat), i + d = 32 → (∀ q, q < i → ¬ hd_wr (hd_fl a_cell q) = 0) → wX_isMended_46 post t (d + 1) (nI i) f_buffered f_clock f_check a_isOpen a_from a_to a_gap a_tolerance a_due a_frames a_frameLength a_frameBytes a_nextCell a_number a_spoiledNumber a_buffer a_cell a_lastSent a_ahead a_which a_isWary a_queueCount a_queue a_inCount a_inCircuit a_inLength a_inBytes a_keptCount a_isSpoiled a_keptNumber a_kept a_counts := by
  intro d
  induction d with
  | zero =>
    intro i hi hq
    obtain rfl : i = 32 := by omega
    exact br_t (nI_le (a := 32) (b := 32) (by omega) (by omega)) (hN hq)
  | succ d ih =>
    intro i hi hq
    refine br_f (nI_ge (b := 32) (by omega) (by omega)) (br_f ht (xw_tb (by omega) (xw_woh (xm_fB h1) (xm_fB h2) (br_c (fun z => ?_) (fun z => ?_)))))
    · exact hY i (by omega) z hq
    · refine xw_tb (by omega) (nm_r (nI_1 i) ?_)
      rw [hd_fl2]
      exact ih (i + 1) (by omega) (fun q hq2 => by
        by_cases e : q = i
        · rw [e]; exact z
        · exact hq q (by omega))
theorem xw_im_ok {post : Int32 → SX → Prop} {s : Nat} (hs : s < 4) (h1 : cd_B (a_cell 1)) (h2 : cd_B (a_cell 2)) (hw : hd_wr a_cell = 0)
    (h : post 1 (f_buffered, f_clock, f_check, a_isOpen, a_from, a_to, a_gap, a_tolerance, a_due, a_frames, a_frameLength, a_frameBytes, a_nextCell, a_number, a_spoiledNumber, a_buffer, a_cell, a_lastSent, a_ahead, a_which, (upd a_isWary s 0), a_queueCount, a_queue, a_inCount, a_inCircuit, a_inLength, a_inBytes, a_keptCount, a_isSpoiled, a_keptNumber, a_kept, a_counts)) : wpX_isMended post (f_buffered, f_clock, f_check, a_isOpen, a_from, a_to, a_gap, a_tolerance, a_due, a_frames, a_frameLength, a_frameBytes, a_nextCell, a_number, a_spoiledNumber, a_buffer, a_cell, a_lastSent, a_ahead, a_which, a_isWary, a_queueCount, a_queue, a_inCount, a_inCircuit, a_inLength, a_inBytes, a_keptCount, a_isSpoiled, a_keptNumber, a_kept, a_counts) (nI s) := by
  have ec : (nI s).toNatClampNeg = s := nl_cl (by omega)
  have i4 : vp_in (nI s) 4 := vp_in_nI hs (by decide)
  unfold wpX_isMended
  dsimp only
  have K : ∀ t : Int32, wX_isMended_14 post (nI s) t f_buffered f_clock f_check a_isOpen a_from a_to a_gap a_tolerance a_due a_frames a_frameLength a_frameBytes a_nextCell a_number a_spoiledNumber a_buffer a_cell a_lastSent a_ahead a_which a_isWary a_queueCount a_queue a_inCount a_inCircuit a_inLength a_inBytes a_keptCount a_isSpoiled a_keptNumber a_kept a_counts := fun t => by
    unfold wX_isMended_14
    refine xw_woh h1 h2 (br_t hw ?_)
    unfold wX_isMended_32
    refine ⟨i4, nm_r (e' := upd a_isWary s 0) (by rw [ec, nl_b0]) ⟨i4, br_t ?_ h⟩⟩
    rw [ec, pk_us]
  exact ⟨i4, fun _ => K 1, fun _ => K 0⟩
theorem xw_im_no {post : Int32 → SX → Prop} {s : Nat} (hs : s < 4) (h1 : cd_B (a_cell 1)) (h2 : cd_B (a_cell 2)) (hw : ¬ hd_wr a_cell = 0)
    (h0 : ¬ a_isWary s = 0 → post 0 (f_buffered, f_clock, f_check, a_isOpen, a_from, a_to, a_gap, a_tolerance, a_due, a_frames, a_frameLength, a_frameBytes, a_nextCell, a_number, a_spoiledNumber, a_buffer, a_cell, a_lastSent, a_ahead, a_which, (upd a_isWary s 1), a_queueCount, a_queue, a_inCount, a_inCircuit, a_inLength, a_inBytes, a_keptCount, a_isSpoiled, a_keptNumber, a_kept, a_counts))
    (hN : a_isWary s = 0 → (∀ q, q < 32 → ¬ hd_wr (hd_fl a_cell q) = 0) → post 0 (f_buffered, f_clock, f_check, a_isOpen, a_from, a_to, a_gap, a_tolerance, a_due, a_frames, a_frameLength, a_frameBytes, a_nextCell, a_number, a_spoiledNumber, a_buffer, a_cell, a_lastSent, a_ahead, a_which, (upd a_isWary s 1), a_queueCount, a_queue, a_inCount, a_inCircuit, a_inLength, a_inBytes, a_keptCount, a_isSpoiled, a_keptNumber, a_kept, a_counts))
    (hY : a_isWary s = 0 → ∀ p, p < 32 → hd_wr (hd_fl a_cell p) = 0 → (∀ q, q < p → ¬ hd_wr (hd_fl a_cell q) = 0) → post 1 (f_buffered, f_clock, f_check, a_isOpen, a_from, a_to, a_gap, a_tolerance, a_due, a_frames, a_frameLength, a_frameBytes, a_nextCell, a_number, a_spoiledNumber, a_buffer, (hd_fl a_cell p), a_lastSent, a_ahead, a_which, (upd a_isWary s 1), a_queueCount, a_queue, a_inCount, a_inCircuit, a_inLength, a_inBytes, a_keptCount, a_isSpoiled, a_keptNumber, a_kept, a_counts)) : wpX_isMended post (f_buffered, f_clock, f_check, a_isOpen, a_from, a_to, a_gap, a_tolerance, a_due, a_frames, a_frameLength, a_frameBytes, a_nextCell, a_number, a_spoiledNumber, a_buffer, a_cell, a_lastSent, a_ahead, a_which, a_isWary, a_queueCount, a_queue, a_inCount, a_inCircuit, a_inLength, a_inBytes, a_keptCount, a_isSpoiled, a_keptNumber, a_kept, a_counts) (nI s) := by
  have ec : (nI s).toNatClampNeg = s := nl_cl (by omega)
  have i4 : vp_in (nI s) 4 := vp_in_nI hs (by decide)
  unfold wpX_isMended
  dsimp only
  refine ⟨i4, ?_⟩
  rw [ec]
  refine br_c (fun z => ?_) (fun z => ?_)
  · unfold wX_isMended_14
    refine xw_woh h1 h2 (br_f hw ?_)
    unfold wX_isMended_32
    refine ⟨i4, nm_r (e' := upd a_isWary s 1) (by rw [ec, nl_b1]) ⟨i4, br_f (by rw [ec, pk_us]; decide) ⟨33, ?_⟩⟩⟩
    exact xw_im46 (by decide) h1 h2 (hN z) (hY z) 32 0 rfl (fun q hq => absurd hq (by omega))
  · unfold wX_isMended_14
    refine xw_woh h1 h2 (br_f hw ?_)
    unfold wX_isMended_32
    refine ⟨i4, nm_r (e' := upd a_isWary s 1) (by rw [ec, nl_b1]) ⟨i4, br_f (by rw [ec, pk_us]; decide) ⟨1, ?_⟩⟩⟩
    exact br_f (by decide) (br_t rfl (h0 z))
theorem xw_drop {post : SX → Prop} {c why m : Nat} (hc : c < 8) (hw : why < 7) (h1 : a_cell 1 = nI (m / 256)) (h2 : a_cell 2 = nI (m % 256)) (hm : m < 65536)
    (h : post (f_buffered, f_clock, f_check, a_isOpen, a_from, a_to, a_gap, a_tolerance, a_due, a_frames, a_frameLength, a_frameBytes, a_nextCell, a_number, (upd a_spoiledNumber c (nI m)), a_buffer, a_cell, a_lastSent, a_ahead, a_which, a_isWary, a_queueCount, a_queue, a_inCount, a_inCircuit, a_inLength, a_inBytes, a_keptCount, a_isSpoiled, a_keptNumber, a_kept, (upd a_counts why (a_counts why + 1)))) : wpX_drop post (f_buffered, f_clock, f_check, a_isOpen, a_from, a_to, a_gap, a_tolerance, a_due, a_frames, a_frameLength, a_frameBytes, a_nextCell, a_number, a_spoiledNumber, a_buffer, a_cell, a_lastSent, a_ahead, a_which, a_isWary, a_queueCount, a_queue, a_inCount, a_inCircuit, a_inLength, a_inBytes, a_keptCount, a_isSpoiled, a_keptNumber, a_kept, a_counts) (nI c) (nI why) := by
  have ec : (nI c).toNatClampNeg = c := nl_cl (by omega)
  have ew : (nI why).toNatClampNeg = why := nl_cl (by omega)
  have i8 : vp_in (nI c) 8 := vp_in_nI hc (by decide)
  have i7 : vp_in (nI why) 7 := vp_in_nI hw (by decide)
  unfold wpX_drop
  dsimp only
  rw [ec, ew, h1, h2, xm_own hm]
  exact ⟨i7, i7, nm_e ⟨i8, nm_e h⟩⟩
theorem xw_ad157 {post : SX → Prop} {s q : Nat} (hs : s < 4) (hq : q < 6) (hQ : a_queueCount s = nI q)
    (h : post (f_buffered, f_clock, f_check, a_isOpen, a_from, a_to, a_gap, a_tolerance, a_due, a_frames, a_frameLength, a_frameBytes, a_nextCell, a_number, a_spoiledNumber, a_buffer, a_cell, a_lastSent, a_ahead, a_which, a_isWary, (upd a_queueCount s (nI (q + 1))), (ar_cp a_queue (12 * (6 * s + q)) 12 a_cell), a_inCount, a_inCircuit, a_inLength, a_inBytes, a_keptCount, a_isSpoiled, a_keptNumber, a_kept, a_counts)) :
    ∀ (d i : Nat) (qu : Nat → Int32), i + d = 12 → qu = ar_cp a_queue (12 * (6 * s + q)) i a_cell → wX_admit_157 post (nI s) f_buffered f_clock f_check (d + 1) (nI i) a_isOpen a_from a_to a_gap a_tolerance a_due a_frames a_frameLength a_frameBytes a_nextCell a_number a_spoiledNumber a_buffer a_cell a_lastSent a_ahead a_which a_isWary a_queueCount qu a_inCount a_inCircuit a_inLength a_inBytes a_keptCount a_isSpoiled a_keptNumber a_kept a_counts := by
  have ec : (nI s).toNatClampNeg = s := nl_cl (by omega)
  have i4 : vp_in (nI s) 4 := vp_in_nI hs (by decide)
  intro d
  induction d with
  | zero =>
    intro i qu hi hqu
    obtain rfl : i = 12 := by omega
    subst hqu
    exact br_t (nI_le (a := 12) (b := 12) (by omega) (by omega)) ⟨i4, i4, nm_r (e' := upd a_queueCount s (nI (q + 1))) (by rw [ec, hQ, nI_1]) h⟩
  | succ d ih =>
    intro i qu hi hqu
    have e1 : 12 * (6 * nI s + a_queueCount (nI s).toNatClampNeg) + nI i = nI (12 * (6 * s + q) + i) := by rw [ec, hQ, nl_m6, nI_add, nl_m12, nI_add]
    refine br_f (nI_ge (b := 12) (by omega) (by omega)) ⟨i4, pk_in i _ (by omega), pk_in _ _ (by omega) e1, nm_e (nm_r (nI_1 i) (ih (i + 1) _ (by omega) ?_))⟩
    rw [e1, nl_cl (by omega), nl_cl (by omega), hqu]
    exact ar_S' rfl rfl
/-- what the switch asks of the cell on its way -/
def xm_in (ce : Nat → Int32) (c z k m : Nat) : Prop := ce 0 = nI (16 * c + z + k) ∧ ce 1 = nI (m / 256) ∧ ce 2 = nI (m % 256) ∧ c < 8 ∧ k < 8 ∧ m < 65536 ∧ (z = 8 ∨ z = 0)
theorem xw_ad129 {post : SX → Prop} {c z k m s q : Nat} (hI : xm_in a_cell c z k m) (hs : s < 4) (hT : a_to c = nI s) (hQ : a_queueCount s = nI q) (hq : q ≤ 6)
    (hf : q = 6 → post (f_buffered, f_clock, f_check, a_isOpen, a_from, a_to, a_gap, a_tolerance, a_due, a_frames, a_frameLength, a_frameBytes, a_nextCell, a_number, (upd a_spoiledNumber c (nI m)), a_buffer, a_cell, a_lastSent, a_ahead, a_which, a_isWary, a_queueCount, a_queue, a_inCount, a_inCircuit, a_inLength, a_inBytes, a_keptCount, a_isSpoiled, a_keptNumber, a_kept, (upd a_counts 2 (a_counts 2 + 1))))
    (ha : q < 6 → post (f_buffered, f_clock, f_check, a_isOpen, a_from, a_to, a_gap, a_tolerance, a_due, a_frames, a_frameLength, a_frameBytes, a_nextCell, a_number, a_spoiledNumber, a_buffer, a_cell, a_lastSent, a_ahead, a_which, a_isWary, (upd a_queueCount s (nI (q + 1))), (ar_cp a_queue (12 * (6 * s + q)) 12 a_cell), a_inCount, a_inCircuit, a_inLength, a_inBytes, a_keptCount, a_isSpoiled, a_keptNumber, a_kept, a_counts)) : wX_admit_129 post (nI c) f_buffered f_clock f_check a_isOpen a_from a_to a_gap a_tolerance a_due a_frames a_frameLength a_frameBytes a_nextCell a_number a_spoiledNumber a_buffer a_cell a_lastSent a_ahead a_which a_isWary a_queueCount a_queue a_inCount a_inCircuit a_inLength a_inBytes a_keptCount a_isSpoiled a_keptNumber a_kept a_counts := by
  obtain ⟨h0, h1, h2, hc, hk, hm, hz⟩ := hI
  have ec : (nI c).toNatClampNeg = c := nl_cl (by omega)
  have es : (nI s).toNatClampNeg = s := nl_cl (by omega)
  have i8 : vp_in (nI c) 8 := vp_in_nI hc (by decide)
  unfold wX_admit_129
  rw [ec, hT]
  refine ⟨i8, nm_e ⟨vp_in_nI hs (by decide), ?_⟩⟩
  rw [es, hQ]
  exact pk_eq q 6 (fun e => xw_drop (why := 2) hc (by decide) h1 h2 hm (hf e)) (fun e => ⟨13, xw_ad157 hs (by omega) hQ (ha (by omega)) 12 0 _ rfl (ar_0 _ _ _).symm⟩)
theorem xw_admit {post : SX → Prop} {c z k m s q : Nat} (hI : xm_in a_cell c z k m) (hs : s < 4) (hT : a_to c = nI s) (hQ : a_queueCount s = nI q) (hq : q ≤ 6)
    (he : ¬ a_due c - a_tolerance c ≤ f_clock → post (f_buffered, f_clock, f_check, a_isOpen, a_from, a_to, a_gap, a_tolerance, a_due, a_frames, a_frameLength, a_frameBytes, a_nextCell, a_number, (upd a_spoiledNumber c (nI m)), a_buffer, a_cell, a_lastSent, a_ahead, a_which, a_isWary, a_queueCount, a_queue, a_inCount, a_inCircuit, a_inLength, a_inBytes, a_keptCount, a_isSpoiled, a_keptNumber, a_kept, (upd a_counts 0 (a_counts 0 + 1))))
    (hp : a_due c - a_tolerance c ≤ f_clock → ∀ dv, dv = (if f_clock ≤ a_due c then a_due c else f_clock) + a_gap c →
      (a_spoiledNumber c = nI m → z = 0 → post (f_buffered, f_clock, f_check, a_isOpen, a_from, a_to, a_gap, a_tolerance, (upd a_due c dv), a_frames, a_frameLength, a_frameBytes, a_nextCell, a_number, (upd a_spoiledNumber c (nI m)), a_buffer, a_cell, a_lastSent, a_ahead, a_which, a_isWary, a_queueCount, a_queue, a_inCount, a_inCircuit, a_inLength, a_inBytes, a_keptCount, a_isSpoiled, a_keptNumber, a_kept, (upd a_counts 1 (a_counts 1 + 1)))) ∧
      ((a_spoiledNumber c = nI m → z = 8) → q = 6 → post (f_buffered, f_clock, f_check, a_isOpen, a_from, a_to, a_gap, a_tolerance, (upd a_due c dv), a_frames, a_frameLength, a_frameBytes, a_nextCell, a_number, (upd a_spoiledNumber c (nI m)), a_buffer, a_cell, a_lastSent, a_ahead, a_which, a_isWary, a_queueCount, a_queue, a_inCount, a_inCircuit, a_inLength, a_inBytes, a_keptCount, a_isSpoiled, a_keptNumber, a_kept, (upd a_counts 2 (a_counts 2 + 1)))) ∧
      ((a_spoiledNumber c = nI m → z = 8) → q < 6 → post (f_buffered, f_clock, f_check, a_isOpen, a_from, a_to, a_gap, a_tolerance, (upd a_due c dv), a_frames, a_frameLength, a_frameBytes, a_nextCell, a_number, a_spoiledNumber, a_buffer, a_cell, a_lastSent, a_ahead, a_which, a_isWary, (upd a_queueCount s (nI (q + 1))), (ar_cp a_queue (12 * (6 * s + q)) 12 a_cell), a_inCount, a_inCircuit, a_inLength, a_inBytes, a_keptCount, a_isSpoiled, a_keptNumber, a_kept, a_counts))) : wpX_admit post (f_buffered, f_clock, f_check, a_isOpen, a_from, a_to, a_gap, a_tolerance, a_due, a_frames, a_frameLength, a_frameBytes, a_nextCell, a_number, a_spoiledNumber, a_buffer, a_cell, a_lastSent, a_ahead, a_which, a_isWary, a_queueCount, a_queue, a_inCount, a_inCircuit, a_inLength, a_inBytes, a_keptCount, a_isSpoiled, a_keptNumber, a_kept, a_counts) := by
  have hI' := hI
  obtain ⟨h0, h1, h2, hc, hk, hm, hz⟩ := hI
  have ec : (nI c).toNatClampNeg = c := nl_cl (by omega)
  have i8 : vp_in (nI c) 8 := vp_in_nI hc (by decide)
  have K92 : ∀ dv, ((a_spoiledNumber c = nI m → z = 0 → post (f_buffered, f_clock, f_check, a_isOpen, a_from, a_to, a_gap, a_tolerance, (upd a_due c dv), a_frames, a_frameLength, a_frameBytes, a_nextCell, a_number, (upd a_spoiledNumber c (nI m)), a_buffer, a_cell, a_lastSent, a_ahead, a_which, a_isWary, a_queueCount, a_queue, a_inCount, a_inCircuit, a_inLength, a_inBytes, a_keptCount, a_isSpoiled, a_keptNumber, a_kept, (upd a_counts 1 (a_counts 1 + 1)))) ∧
      ((a_spoiledNumber c = nI m → z = 8) → q = 6 → post (f_buffered, f_clock, f_check, a_isOpen, a_from, a_to, a_gap, a_tolerance, (upd a_due c dv), a_frames, a_frameLength, a_frameBytes, a_nextCell, a_number, (upd a_spoiledNumber c (nI m)), a_buffer, a_cell, a_lastSent, a_ahead, a_which, a_isWary, a_queueCount, a_queue, a_inCount, a_inCircuit, a_inLength, a_inBytes, a_keptCount, a_isSpoiled, a_keptNumber, a_kept, (upd a_counts 2 (a_counts 2 + 1)))) ∧
      ((a_spoiledNumber c = nI m → z = 8) → q < 6 → post (f_buffered, f_clock, f_check, a_isOpen, a_from, a_to, a_gap, a_tolerance, (upd a_due c dv), a_frames, a_frameLength, a_frameBytes, a_nextCell, a_number, a_spoiledNumber, a_buffer, a_cell, a_lastSent, a_ahead, a_which, a_isWary, (upd a_queueCount s (nI (q + 1))), (ar_cp a_queue (12 * (6 * s + q)) 12 a_cell), a_inCount, a_inCircuit, a_inLength, a_inBytes, a_keptCount, a_isSpoiled, a_keptNumber, a_kept, a_counts))) → 
      ∀ zz : Int32, (zz = 0 ↔ z = 0) → wX_admit_92 post (nI c) zz f_buffered f_clock f_check a_isOpen a_from a_to a_gap a_tolerance (upd a_due c dv) a_frames a_frameLength a_frameBytes a_nextCell a_number a_spoiledNumber a_buffer a_cell a_lastSent a_ahead a_which a_isWary a_queueCount a_queue a_inCount a_inCircuit a_inLength a_inBytes a_keptCount a_isSpoiled a_keptNumber a_kept a_counts := by
    intro dv ⟨k1, k2, k3⟩ zz hzz
    unfold wX_admit_92
    rw [ec, h1, h2, xm_own hm]
    refine ⟨i8, br_c (fun e => br_c (fun e2 => ?_) (fun e2 => ?_)) (fun e => ?_)⟩
    · exact xw_drop (why := 1) hc (by decide) h1 h2 hm (k1 e (hzz.mp e2))
    · have e3 : a_spoiledNumber c = nI m → z = 8 := fun _ => by
        rcases hz with g | g
        · exact g
        · exact absurd (hzz.mpr g) e2
      exact xw_ad129 hI' hs hT hQ hq (k2 e3) (k3 e3)
    · have e3 : a_spoiledNumber c = nI m → z = 8 := fun g => absurd g e
      exact xw_ad129 hI' hs hT hQ hq (k2 e3) (k3 e3)
  have K67 : ∀ dv, a_due c - a_tolerance c ≤ f_clock → dv = (if f_clock ≤ a_due c then a_due c else f_clock) → wX_admit_67 post (nI c) dv (nI c) f_buffered f_clock f_check a_isOpen a_from a_to a_gap a_tolerance a_due a_frames a_frameLength a_frameBytes a_nextCell a_number a_spoiledNumber a_buffer a_cell a_lastSent a_ahead a_which a_isWary a_queueCount a_queue a_inCount a_inCircuit a_inLength a_inBytes a_keptCount a_isSpoiled a_keptNumber a_kept a_counts := by
    intro dv hle hdv
    unfold wX_admit_67
    rw [ec, h0]
    refine ⟨i8, i8, nm_e ?_⟩
    have P := hp hle (dv + a_gap c) (by rw [hdv])
    rcases hz with g | g
    · subst g
      exact br_f (xm_l8 c hc k hk) (K92 _ P 1 (by decide))
    · subst g
      exact br_t (xm_l0 c hc k hk) (K92 _ P 0 (by decide))
  unfold wpX_admit
  dsimp only
  rw [h0]
  refine nm_r (xm_c hc (by omega)) ⟨i8, i8, ?_⟩
  rw [ec]
  refine br_c (fun e => ⟨i8, br_c (fun e2 => ⟨i8, ?_⟩) (fun e2 => ?_)⟩) (fun e => xw_drop (why := 0) hc (by decide) h1 h2 hm (he e))
  · exact K67 _ e (if_pos e2).symm
  · exact K67 _ e (if_neg e2).symm
end
end
section
theorem xm_ce0 (a : Nat → Int32) (c k l m : Nat) (b : Nat → Int32) : xm_ce a c k l m b 0 = nI (xm_hd c k l) := by
  unfold xm_ce
  rw [ar_out _ _ (by omega), pk_un (by decide), pk_un (by decide), pk_un (by decide), pk_us]
theorem xm_ce1 (a : Nat → Int32) (c k l m : Nat) (b : Nat → Int32) : xm_ce a c k l m b 1 = nI (m / 256) := by
  unfold xm_ce
  rw [ar_out _ _ (by omega), pk_un (by decide), pk_un (by decide), pk_us]
theorem xm_ce2 (a : Nat → Int32) (c k l m : Nat) (b : Nat → Int32) : xm_ce a c k l m b 2 = nI (m % 256) := by
  unfold xm_ce
  rw [ar_out _ _ (by omega), pk_un (by decide), pk_us]
theorem xm_ce3 (a : Nat → Int32) (c k l m : Nat) (b : Nat → Int32) : xm_ce a c k l m b 3 = hd_c (nI (xm_hd c k l)) (nI (m / 256)) (nI (m % 256)) := by
  unfold xm_ce
  rw [ar_out _ _ (by omega), pk_us]
theorem xm_ce4 (a : Nat → Int32) (c k l m : Nat) (b : Nat → Int32) {i : Nat} (hi : i < 8) : xm_ce a c k l m b (4 + i) = cd_ct l b (8 * k + i) := by
  unfold xm_ce
  rw [ar_in _ _ _ _ hi]
theorem xm_cew (a : Nat → Int32) (c k l m : Nat) (b : Nat → Int32) : hd_wr (xm_ce a c k l m b) = 0 := by
  unfold hd_wr
  rw [xm_ce0, xm_ce1, xm_ce2, xm_ce3, cs_xx]
/-- a cell as the switch wants it: right head, content with the turned bit e -/
def xm_cell (ce : Nat → Int32) (c k l m e : Nat) (b : Nat → Int32) : Prop :=
  ce 0 = nI (xm_hd c k l) ∧ ce 1 = nI (m / 256) ∧ ce 2 = nI (m % 256) ∧ ∀ i, i < 8 → ce (4 + i) = cd_ct l b (8 * k + i) ^^^ cs_er e i
theorem xm_cell64 (a : Nat → Int32) (c k l m : Nat) (b : Nat → Int32) : xm_cell (xm_ce a c k l m b) c k l m 64 b :=
  ⟨xm_ce0 _ _ _ _ _ _, xm_ce1 _ _ _ _ _ _, xm_ce2 _ _ _ _ _ _, fun i hi => by rw [xm_ce4 _ _ _ _ _ _ hi, cd_er64 i hi, cs_x0]⟩
theorem xm_cell3 (a : Nat → Int32) (c k l m e : Nat) (b : Nat → Int32) (he : e < 64) : xm_cell (hd_fl (xm_ce a c k l m b) (32 + e)) c k l m e b := by
  refine ⟨?_, ?_, ?_, fun i hi => ?_⟩
  · rw [hd_fl_at, if_neg (by omega), cs_x0, xm_ce0]
  · rw [hd_fl_at, if_neg (by omega), cs_x0, xm_ce1]
  · rw [hd_fl_at, if_neg (by omega), cs_x0, xm_ce2]
  · rw [hd_fl_at, xm_ce4 _ _ _ _ _ _ hi]
    congr 1
    unfold cs_er
    rw [show (32 + e) % 8 = e % 8 by omega]
    by_cases z : i = e / 8
    · rw [if_pos z, if_pos (by omega)]
    · rw [if_neg z, if_neg (by omega)]
/-- the middle of sendFrom: the circuit moved on, the cell on its way -/
def xm_mid (c k l m a e : Nat) (wy : Int32) (b ce : Nat → Int32) : Prop :=
  xm_cell ce c k l m e b ∧ e ≤ 64 ∧ (e = 64 ↔ a ≠ 3) ∧ wy = (if a = 0 ∨ a = 3 then 0 else 1)
section
variable {f_buffered f_clock f_check : Int32} {a_isOpen a_from a_to a_gap a_tolerance a_due a_frames a_frameLength a_frameBytes a_nextCell a_number a_spoiledNumber a_buffer a_cell a_lastSent a_ahead a_which a_isWary a_queueCount a_queue a_inCount a_inCircuit a_inLength a_inBytes a_keptCount a_isSpoiled a_keptNumber a_kept a_counts : Nat → Int32}
theorem xw_send {post : SX → Prop} {s c k l m a t q : Nat} (hnx : ∀ P : Int32 → Prop, P (nI c) → wpX_nextCircuit P (f_buffered, f_clock, f_check, a_isOpen, a_from, a_to, a_gap, a_tolerance, a_due, a_frames, a_frameLength, a_frameBytes, a_nextCell, a_number, a_spoiledNumber, a_buffer, a_cell, a_lastSent, a_ahead, a_which, a_isWary, a_queueCount, a_queue, a_inCount, a_inCircuit, a_inLength, a_inBytes, a_keptCount, a_isSpoiled, a_keptNumber, a_kept, a_counts) (nI s)) (hs : s < 4)
    (hc : c < 8) (hL : a_frameLength (2 * c) = nI l) (hl : l ≤ 27) (hk : k < cd_n l) (hK : a_nextCell c = nI k) (hM : a_number c = nI m) (hm : m < 65536)
    (ha : a ≤ 3) (hA : a_ahead s = nI a) (ht : t < 4) (hT : a_to c = nI t) (hQ : a_queueCount t = nI q) (hq : q ≤ 6)
    (Hl : ∀ nc nu fr fl fb ce ck, xm_adv c k l a_nextCell nc a_number nu a_frames fr a_frameLength fl a_frameBytes fb → (a = 2 ∨ a = 1 ∧ ¬ a_isWary s = 0) →
      post (f_buffered, f_clock, ck, a_isOpen, a_from, a_to, a_gap, a_tolerance, a_due, fr, fl, fb, nc, nu, a_spoiledNumber, a_buffer, ce, (upd a_lastSent s (nI c)), (upd a_ahead s 0), a_which, (upd a_isWary s 1), a_queueCount, a_queue, a_inCount, a_inCircuit, a_inLength, a_inBytes, a_keptCount, a_isSpoiled, a_keptNumber, a_kept, (upd a_counts 3 (a_counts 3 + 1))))
    (Ha : ∀ nc nu fr fl fb ce ck wy e, xm_adv c k l a_nextCell nc a_number nu a_frames fr a_frameLength fl a_frameBytes fb → ¬ (a = 2 ∨ a = 1 ∧ ¬ a_isWary s = 0) → xm_mid c k l m a e wy (fun j => a_frameBytes (27 * (2 * c) + j)) ce →
      (¬ a_due c - a_tolerance c ≤ f_clock → post (f_buffered, f_clock, ck, a_isOpen, a_from, a_to, a_gap, a_tolerance, a_due, fr, fl, fb, nc, nu, (upd a_spoiledNumber c (nI m)), a_buffer, ce, (upd a_lastSent s (nI c)), (upd a_ahead s 0), a_which, (upd a_isWary s wy), a_queueCount, a_queue, a_inCount, a_inCircuit, a_inLength, a_inBytes, a_keptCount, a_isSpoiled, a_keptNumber, a_kept, (upd a_counts 0 (a_counts 0 + 1)))) ∧
      (a_due c - a_tolerance c ≤ f_clock → ∀ dv, dv = (if f_clock ≤ a_due c then a_due c else f_clock) + a_gap c →
        (a_spoiledNumber c = nI m → k + 1 ≠ cd_n l → post (f_buffered, f_clock, ck, a_isOpen, a_from, a_to, a_gap, a_tolerance, (upd a_due c dv), fr, fl, fb, nc, nu, (upd a_spoiledNumber c (nI m)), a_buffer, ce, (upd a_lastSent s (nI c)), (upd a_ahead s 0), a_which, (upd a_isWary s wy), a_queueCount, a_queue, a_inCount, a_inCircuit, a_inLength, a_inBytes, a_keptCount, a_isSpoiled, a_keptNumber, a_kept, (upd a_counts 1 (a_counts 1 + 1)))) ∧
        ((a_spoiledNumber c = nI m → k + 1 = cd_n l) → q = 6 → post (f_buffered, f_clock, ck, a_isOpen, a_from, a_to, a_gap, a_tolerance, (upd a_due c dv), fr, fl, fb, nc, nu, (upd a_spoiledNumber c (nI m)), a_buffer, ce, (upd a_lastSent s (nI c)), (upd a_ahead s 0), a_which, (upd a_isWary s wy), a_queueCount, a_queue, a_inCount, a_inCircuit, a_inLength, a_inBytes, a_keptCount, a_isSpoiled, a_keptNumber, a_kept, (upd a_counts 2 (a_counts 2 + 1)))) ∧
        ((a_spoiledNumber c = nI m → k + 1 = cd_n l) → q < 6 → post (f_buffered, f_clock, ck, a_isOpen, a_from, a_to, a_gap, a_tolerance, (upd a_due c dv), fr, fl, fb, nc, nu, a_spoiledNumber, a_buffer, ce, (upd a_lastSent s (nI c)), (upd a_ahead s 0), a_which, (upd a_isWary s wy), (upd a_queueCount t (nI (q + 1))), (ar_cp a_queue (12 * (6 * t + q)) 12 ce), a_inCount, a_inCircuit, a_inLength, a_inBytes, a_keptCount, a_isSpoiled, a_keptNumber, a_kept, a_counts)))) : wpX_sendFrom post (f_buffered, f_clock, f_check, a_isOpen, a_from, a_to, a_gap, a_tolerance, a_due, a_frames, a_frameLength, a_frameBytes, a_nextCell, a_number, a_spoiledNumber, a_buffer, a_cell, a_lastSent, a_ahead, a_which, a_isWary, a_queueCount, a_queue, a_inCount, a_inCircuit, a_inLength, a_inBytes, a_keptCount, a_isSpoiled, a_keptNumber, a_kept, a_counts) (nI s) := by
  have hn := cd_n_in hl
  have es : (nI s).toNatClampNeg = s := nl_cl (by omega)
  have i4 : vp_in (nI s) 4 := vp_in_nI hs (by decide)
  obtain ⟨w, hw, hw2⟩ := pk_andE (a_which s) (m := 1023) 10 (by decide)
  have hin : ∀ ce e, xm_cell ce c k l m e (fun j => a_frameBytes (27 * (2 * c) + j)) → xm_in ce c (if k + 1 = cd_n l then 8 else 0) k m := by
    intro ce e ⟨z0, z1, z2, _⟩
    refine ⟨z0, z1, z2, hc, by omega, hm, ?_⟩
    by_cases g : k + 1 = cd_n l
    · rw [if_pos g]; exact Or.inl rfl
    · rw [if_neg g]; exact Or.inr rfl
  have z8 : (if k + 1 = cd_n l then 8 else 0) = 8 → k + 1 = cd_n l := fun g => by
    by_cases h : k + 1 = cd_n l
    · exact h
    · rw [if_neg h] at g; omega
  have z0 : (if k + 1 = cd_n l then 8 else 0) = 0 → k + 1 ≠ cd_n l := fun g => by
    by_cases h : k + 1 = cd_n l
    · rw [if_pos h] at g; omega
    · exact h
  unfold wpX_sendFrom
  dsimp only
  refine hnx _ (br_t (nI_pos' (by omega)) ⟨i4, nm_r (e' := upd a_lastSent s (nI c)) (by rw [es]) (xw_make hc hL hl hk hK hM hm ?_)⟩)
  intro nc nu fr fl fb ck hadv
  refine xw_turnBits hs ha hA hw2 hw ?_
  have B1 := cd_Bn (n := m / 256) (by omega)
  have B2 := cd_Bn (n := m % 256) (by omega)
  have A1 : cd_B (xm_ce a_cell c k l m (fun j => a_frameBytes (27 * (2 * c) + j)) 1) := by rw [xm_ce1]; exact B1
  have A2 : cd_B (xm_ce a_cell c k l m (fun j => a_frameBytes (27 * (2 * c) + j)) 2) := by rw [xm_ce2]; exact B2
  have Wc := xm_cew a_cell c k l m (fun j => a_frameBytes (27 * (2 * c) + j))
  have C64 := xm_cell64 a_cell c k l m (fun j => a_frameBytes (27 * (2 * c) + j))
  have C3 := fun e he => xm_cell3 a_cell c k l m e (fun j => a_frameBytes (27 * (2 * c) + j)) he
  dsimp only
  generalize xm_ce a_cell c k l m (fun j => a_frameBytes (27 * (2 * c) + j)) = ce at A1 A2 Wc C64 C3
  rcases (by omega : a = 0 ∨ a = 1 ∨ a = 2 ∨ a = 3) with h0 | h1 | h2 | h3
  · have et : xm_tu a w ce = ce := by unfold xm_tu; rw [if_neg (by omega), if_neg (by omega), if_neg (by omega)]
    rw [et]
    refine xw_im_ok hs A1 A2 Wc (br_f (by decide) ?_)
    obtain ⟨G1, G2⟩ := Ha nc nu fr fl fb _ ck 0 64 hadv (by omega) ⟨C64, by omega, by omega, by rw [if_pos (by omega)]⟩
    exact xw_admit (hin _ _ C64) ht hT hQ hq G1 (fun g dv hdv => ⟨fun g1 g2 => (G2 g dv hdv).1 g1 (z0 g2), fun g1 g2 => (G2 g dv hdv).2.1 (fun g3 => z8 (g1 g3)) g2, fun g1 g2 => (G2 g dv hdv).2.2 (fun g3 => z8 (g1 g3)) g2⟩)
  · have et : xm_tu a w ce = hd_fl ce (w % 32) := by unfold xm_tu; rw [if_pos h1]
    rw [et]
    have hp : w % 32 < 32 := by omega
    have W1 : hd_wr (hd_fl ce (w % 32)) = nI (hd_H.getD (w % 32) 0) := by rw [hd_wfl _ hp, Wc, cs_0x]
    have F2 := hd_fl2 ce (w % 32)
    refine xw_im_no hs (xm_fB A1) (xm_fB A2) (by rw [W1]; exact hd_ne0 _ hp) (fun y => br_t rfl (nm_e (Hl nc nu fr fl fb _ ck hadv (Or.inr ⟨h1, y⟩)))) (fun y g => ?_) (fun y p hp2 g g2 => ?_)
    · exact absurd (by rw [F2]; exact Wc) (g (w % 32) hp)
    · obtain rfl : p = w % 32 := by
        rw [hd_wfl _ hp2, W1] at g
        exact (hd_inj _ hp _ hp2 (cs_xeq g)).symm
      dsimp only
      rw [F2]
      refine br_f (by decide) ?_
      obtain ⟨G1, G2⟩ := Ha nc nu fr fl fb _ ck 1 64 hadv (by intro g; rcases g with g | ⟨_, g⟩; omega; exact g y) ⟨C64, by omega, by omega, by rw [if_neg (by omega)]⟩
      exact xw_admit (hin _ _ C64) ht hT hQ hq G1 (fun g dv hdv => ⟨fun g1 g2 => (G2 g dv hdv).1 g1 (z0 g2), fun g1 g2 => (G2 g dv hdv).2.1 (fun g3 => z8 (g1 g3)) g2, fun g1 g2 => (G2 g dv hdv).2.2 (fun g3 => z8 (g1 g3)) g2⟩)
  · have et : xm_tu a w ce = hd_fl (hd_fl ce (w % 32)) ((w % 32 + 1 + w / 32 % 31) % 32) := by unfold xm_tu; rw [if_neg (by omega), if_pos h2]
    rw [et]
    have hp : w % 32 < 32 := by omega
    have hp2 : (w % 32 + 1 + w / 32 % 31) % 32 < 32 := by omega
    have hne : w % 32 ≠ (w % 32 + 1 + w / 32 % 31) % 32 := by omega
    generalize (w % 32 + 1 + w / 32 % 31) % 32 = r at hp2 hne
    have W2 : hd_wr (hd_fl (hd_fl ce (w % 32)) r) = nI (hd_H.getD (w % 32) 0) ^^^ nI (hd_H.getD r 0) := by rw [hd_wfl _ hp2, hd_wfl _ hp, Wc, cs_0x]
    refine xw_im_no hs (xm_fB (xm_fB A1)) (xm_fB (xm_fB A2)) (by rw [W2]; exact hd_two0 hp hp2 hne) (fun y => br_t rfl (nm_e (Hl nc nu fr fl fb _ ck hadv (Or.inl h2)))) (fun y g => br_t rfl (nm_e (Hl nc nu fr fl fb _ ck hadv (Or.inl h2)))) (fun y p hp3 g g2 => ?_)
    rw [hd_wfl _ hp3, W2] at g
    exact absurd g (hd_two hp hp2 hp3)
  · have et : xm_tu a w ce = hd_fl ce (32 + w % 64) := by unfold xm_tu; rw [if_neg (by omega), if_neg (by omega), if_pos h3]
    rw [et]
    have C3' := C3 (w % 64) (by omega)
    have W3 : hd_wr (hd_fl ce (32 + w % 64)) = 0 := by rw [hd_wfc _ (by omega)]; exact Wc
    refine xw_im_ok hs (xm_fB A1) (xm_fB A2) W3 (br_f (by decide) ?_)
    obtain ⟨G1, G2⟩ := Ha nc nu fr fl fb _ ck 0 (w % 64) hadv (by omega) ⟨C3', by omega, by omega, by rw [if_pos (by omega)]⟩
    exact xw_admit (hin _ _ C3') ht hT hQ hq G1 (fun g dv hdv => ⟨fun g1 g2 => (G2 g dv hdv).1 g1 (z0 g2), fun g1 g2 => (G2 g dv hdv).2.1 (fun g3 => z8 (g1 g3)) g2, fun g1 g2 => (G2 g dv hdv).2.2 (fun g3 => z8 (g1 g3)) g2⟩)
theorem xw_send0 {post : SX → Prop} {s : Nat} (hnx : ∀ P : Int32 → Prop, P (-1) → wpX_nextCircuit P (f_buffered, f_clock, f_check, a_isOpen, a_from, a_to, a_gap, a_tolerance, a_due, a_frames, a_frameLength, a_frameBytes, a_nextCell, a_number, a_spoiledNumber, a_buffer, a_cell, a_lastSent, a_ahead, a_which, a_isWary, a_queueCount, a_queue, a_inCount, a_inCircuit, a_inLength, a_inBytes, a_keptCount, a_isSpoiled, a_keptNumber, a_kept, a_counts) (nI s)) (h : post (f_buffered, f_clock, f_check, a_isOpen, a_from, a_to, a_gap, a_tolerance, a_due, a_frames, a_frameLength, a_frameBytes, a_nextCell, a_number, a_spoiledNumber, a_buffer, a_cell, a_lastSent, a_ahead, a_which, a_isWary, a_queueCount, a_queue, a_inCount, a_inCircuit, a_inLength, a_inBytes, a_keptCount, a_isSpoiled, a_keptNumber, a_kept, a_counts)) : wpX_sendFrom post (f_buffered, f_clock, f_check, a_isOpen, a_from, a_to, a_gap, a_tolerance, a_due, a_frames, a_frameLength, a_frameBytes, a_nextCell, a_number, a_spoiledNumber, a_buffer, a_cell, a_lastSent, a_ahead, a_which, a_isWary, a_queueCount, a_queue, a_inCount, a_inCircuit, a_inLength, a_inBytes, a_keptCount, a_isSpoiled, a_keptNumber, a_kept, a_counts) (nI s) := by
  unfold wpX_sendFrom
  dsimp only
  exact hnx _ (br_f (by decide) h)
end
end
section
section
variable {f_buffered f_clock f_check : Int32} {a_isOpen a_from a_to a_gap a_tolerance a_due a_frames a_frameLength a_frameBytes a_nextCell a_number a_spoiledNumber a_buffer a_cell a_lastSent a_ahead a_which a_isWary a_queueCount a_queue a_inCount a_inCircuit a_inLength a_inBytes a_keptCount a_isSpoiled a_keptNumber a_kept a_counts : Nat → Int32}
theorem xw_ir108 {post : Int32 → SX → Prop} {c kc : Nat} (hc : c < 8) (h1 : 1 ≤ kc) (h4 : kc ≤ 4)
    (hT : cs_su (fun i => a_kept (32 * c + i)) (8 * kc - 4) 4 = f_check → post 1 (f_buffered, f_clock, f_check, a_isOpen, a_from, a_to, a_gap, a_tolerance, a_due, a_frames, a_frameLength, a_frameBytes, a_nextCell, a_number, a_spoiledNumber, a_buffer, a_cell, a_lastSent, a_ahead, a_which, a_isWary, a_queueCount, a_queue, a_inCount, a_inCircuit, a_inLength, a_inBytes, a_keptCount, a_isSpoiled, a_keptNumber, a_kept, a_counts)) (hF : ¬ cs_su (fun i => a_kept (32 * c + i)) (8 * kc - 4) 4 = f_check → post 0 (f_buffered, f_clock, f_check, a_isOpen, a_from, a_to, a_gap, a_tolerance, a_due, a_frames, a_frameLength, a_frameBytes, a_nextCell, a_number, a_spoiledNumber, a_buffer, a_cell, a_lastSent, a_ahead, a_which, a_isWary, a_queueCount, a_queue, a_inCount, a_inCircuit, a_inLength, a_inBytes, a_keptCount, a_isSpoiled, a_keptNumber, a_kept, a_counts)) :
    ∀ (d i : Nat), i + d = 4 → wX_isRight_108 post (nI (32 * c)) (nI (8 * kc)) f_buffered f_clock f_check a_isOpen a_from a_to a_gap a_tolerance a_due a_frames a_frameLength a_frameBytes a_nextCell a_number a_spoiledNumber a_buffer a_cell a_lastSent a_ahead a_which a_isWary a_queueCount a_queue a_inCount a_inCircuit a_inLength a_inBytes a_keptCount a_isSpoiled a_keptNumber a_kept a_counts (d + 1) (cs_su (fun i => a_kept (32 * c + i)) (8 * kc - 4) i) (nI (8 * kc - 4 + i)) := by
  intro d
  induction d with
  | zero =>
    intro i hi
    obtain rfl : i = 4 := by omega
    exact br_t (nI_le (by omega) (by omega)) (br_c hT hF)
  | succ d ih =>
    intro i hi
    have e1 : nI (32 * c) + nI (8 * kc - 4 + i) = nI (32 * c + (8 * kc - 4 + i)) := nI_add _ _
    refine br_f (nI_ge (by omega) (by omega)) ⟨pk_in _ _ (by omega) e1, nm_r ?_ (nm_r (nI_1 _) (ih (i + 1) (by omega)))⟩
    rw [e1, nl_cl (by omega)]
    rfl
theorem xw_ir73 {post : Int32 → SX → Prop} {c kc : Nat} (hc : c < 8) (h1 : 1 ≤ kc) (h4 : kc ≤ 4)
    (hT : cs_su (fun i => a_kept (32 * c + i)) (8 * kc - 4) 4 = cs_fo (-1) (fun i => a_kept (32 * c + i)) (8 * kc - 4) → post 1 (f_buffered, f_clock, (cs_fo (-1) (fun i => a_kept (32 * c + i)) (8 * kc - 4)), a_isOpen, a_from, a_to, a_gap, a_tolerance, a_due, a_frames, a_frameLength, a_frameBytes, a_nextCell, a_number, a_spoiledNumber, a_buffer, a_cell, a_lastSent, a_ahead, a_which, a_isWary, a_queueCount, a_queue, a_inCount, a_inCircuit, a_inLength, a_inBytes, a_keptCount, a_isSpoiled, a_keptNumber, a_kept, a_counts))
    (hF : ¬ cs_su (fun i => a_kept (32 * c + i)) (8 * kc - 4) 4 = cs_fo (-1) (fun i => a_kept (32 * c + i)) (8 * kc - 4) → post 0 (f_buffered, f_clock, (cs_fo (-1) (fun i => a_kept (32 * c + i)) (8 * kc - 4)), a_isOpen, a_from, a_to, a_gap, a_tolerance, a_due, a_frames, a_frameLength, a_frameBytes, a_nextCell, a_number, a_spoiledNumber, a_buffer, a_cell, a_lastSent, a_ahead, a_which, a_isWary, a_queueCount, a_queue, a_inCount, a_inCircuit, a_inLength, a_inBytes, a_keptCount, a_isSpoiled, a_keptNumber, a_kept, a_counts)) :
    ∀ (d i : Nat), i + d = 8 * kc - 4 → wX_isRight_73 post (nI (32 * c)) (nI (8 * kc)) (d + 1) (nI i) f_buffered f_clock (cs_fo (-1) (fun i => a_kept (32 * c + i)) i) a_isOpen a_from a_to a_gap a_tolerance a_due a_frames a_frameLength a_frameBytes a_nextCell a_number a_spoiledNumber a_buffer a_cell a_lastSent a_ahead a_which a_isWary a_queueCount a_queue a_inCount a_inCircuit a_inLength a_inBytes a_keptCount a_isSpoiled a_keptNumber a_kept a_counts := by
  have e4 : nI (8 * kc) - 4 = nI (8 * kc - 4) := nl_sr4 (by omega)
  intro d
  induction d with
  | zero =>
    intro i hi
    obtain rfl : i = 8 * kc - 4 := by omega
    refine br_t (by rw [e4]; exact nI_le (Nat.le_refl _) (by omega)) (nm_r e4 ⟨5, ?_⟩)
    exact xw_ir108 hc h1 h4 hT hF 4 0 rfl
  | succ d ih =>
    intro i hi
    have e1 : nI (32 * c) + nI i = nI (32 * c + i) := nI_add _ _
    refine br_f (by rw [e4]; exact nI_ge (by omega) (by omega)) ⟨pk_in _ _ (by omega) e1, ?_⟩
    rw [e1, nl_cl (by omega)]
    exact xw_feed _ (nm_r (nI_1 i) (ih (i + 1) (by omega)))
theorem xw_isRight_no {post : Int32 → SX → Prop} {c kc : Nat} (hc : c < 8) (h1 : 1 ≤ kc) (h4 : kc ≤ 4) (hK : a_keptCount c = nI kc) (hS : ¬ a_isSpoiled c = 0) (h : post 0 (f_buffered, f_clock, f_check, a_isOpen, a_from, a_to, a_gap, a_tolerance, a_due, a_frames, a_frameLength, a_frameBytes, a_nextCell, a_number, a_spoiledNumber, a_buffer, a_cell, a_lastSent, a_ahead, a_which, a_isWary, a_queueCount, a_queue, a_inCount, a_inCircuit, a_inLength, a_inBytes, a_keptCount, a_isSpoiled, a_keptNumber, a_kept, a_counts)) : wpX_isRight post (f_buffered, f_clock, f_check, a_isOpen, a_from, a_to, a_gap, a_tolerance, a_due, a_frames, a_frameLength, a_frameBytes, a_nextCell, a_number, a_spoiledNumber, a_buffer, a_cell, a_lastSent, a_ahead, a_which, a_isWary, a_queueCount, a_queue, a_inCount, a_inCircuit, a_inLength, a_inBytes, a_keptCount, a_isSpoiled, a_keptNumber, a_kept, a_counts) (nI c) := by
  have ec : (nI c).toNatClampNeg = c := nl_cl (by omega)
  have i8 : vp_in (nI c) 8 := vp_in_nI hc (by decide)
  unfold wpX_isRight
  dsimp only
  rw [ec, hK]
  refine nm_r (nl_m32 c) ⟨i8, nm_r (nl_m8 kc) ⟨pk_in (32 * c + 8 * kc - 5) _ (by omega) (by rw [nI_add, nl_sr5 (by omega)]), nm_e ⟨i8, br_f hS h⟩⟩⟩
theorem xw_isRight {post : Int32 → SX → Prop} {c L : Nat} {B : Nat → Int32} {e : Nat → Nat} (hc : c < 8) (hL : L ≤ 27) (hL1 : 1 ≤ L) (hB : ∀ i, cd_B (B i)) (hK : a_keptCount c = nI (cd_n L)) (hS : a_isSpoiled c = 0)
    (he : ∀ j, j < cd_n L → e j ≤ 64) (hk : ∀ j, j < cd_n L → ∀ i, i < 8 → a_kept (32 * c + 8 * j + i) = cd_ct L B (8 * j + i) ^^^ cs_er (e j) i)
    (Hg : (∀ j, j < cd_n L → e j = 64) → ∀ ck, post 1 (f_buffered, f_clock, ck, a_isOpen, a_from, a_to, a_gap, a_tolerance, a_due, a_frames, a_frameLength, a_frameBytes, a_nextCell, a_number, a_spoiledNumber, a_buffer, a_cell, a_lastSent, a_ahead, a_which, a_isWary, a_queueCount, a_queue, a_inCount, a_inCircuit, a_inLength, a_inBytes, a_keptCount, a_isSpoiled, a_keptNumber, a_kept, a_counts)) (Hb : ¬ (∀ j, j < cd_n L → e j = 64) → ∀ ck, post 0 (f_buffered, f_clock, ck, a_isOpen, a_from, a_to, a_gap, a_tolerance, a_due, a_frames, a_frameLength, a_frameBytes, a_nextCell, a_number, a_spoiledNumber, a_buffer, a_cell, a_lastSent, a_ahead, a_which, a_isWary, a_queueCount, a_queue, a_inCount, a_inCircuit, a_inLength, a_inBytes, a_keptCount, a_isSpoiled, a_keptNumber, a_kept, a_counts)) : wpX_isRight post (f_buffered, f_clock, f_check, a_isOpen, a_from, a_to, a_gap, a_tolerance, a_due, a_frames, a_frameLength, a_frameBytes, a_nextCell, a_number, a_spoiledNumber, a_buffer, a_cell, a_lastSent, a_ahead, a_which, a_isWary, a_queueCount, a_queue, a_inCount, a_inCircuit, a_inLength, a_inBytes, a_keptCount, a_isSpoiled, a_keptNumber, a_kept, a_counts) (nI c) := by
  have hn := cd_n_in hL
  have ec : (nI c).toNatClampNeg = c := nl_cl (by omega)
  have i8 : vp_in (nI c) 8 := vp_in_nI hc (by decide)
  have hh : ∀ i, i < 8 * cd_n L → a_kept (32 * c + i) = cd_ct L B i ^^^ cs_er (e (i / 8)) (i % 8) := fun i hi => by
    have := hk (i / 8) (by omega) (i % 8) (by omega)
    rwa [show 32 * c + 8 * (i / 8) + i % 8 = 32 * c + i by omega, show 8 * (i / 8) + i % 8 = i by omega] at this
  have hD := cd_det hL hB e he (fun i => a_kept (32 * c + i)) hh
  have by64 : (∀ j, j < cd_n L → e j = 64) → a_kept (32 * c + 8 * cd_n L - 5) = nI L := fun z => by
    have := hh (8 * cd_n L - 5) (by omega)
    rw [z _ (by omega), cd_er64 _ (by omega), cs_x0] at this
    rw [show 32 * c + 8 * cd_n L - 5 = 32 * c + (8 * cd_n L - 5) by omega, this]
    unfold cd_ct cd_pad
    rw [if_pos (by omega), if_neg (by omega), if_pos rfl]
  obtain ⟨l, hl, el⟩ : cd_B (a_kept (32 * c + 8 * cd_n L - 5)) := by
    rw [show 32 * c + 8 * cd_n L - 5 = 32 * c + (8 * cd_n L - 5) by omega, hh _ (by omega)]
    exact cd_Bx (cd_ctB hL hB _) (cd_Be _ _)
  have lL : (∀ j, j < cd_n L → e j = 64) → l = L := fun z => by
    have := by64 z
    rw [el, nI_eq (by omega) (by omega)] at this
    exact this
  unfold wpX_isRight wpX_cellsOf
  dsimp only
  rw [ec, hK]
  refine nm_r (nl_m32 c) ⟨i8, nm_r (nl_m8 _) ⟨pk_in (32 * c + 8 * cd_n L - 5) _ (by omega) (by rw [nI_add, nl_sr5 (by omega)]), ?_⟩⟩
  rw [nI_add, nl_sr5 (by omega), nl_cl (by omega)]
  refine nm_r el ⟨i8, br_t hS (pk_lt l 1 (fun z => Hb (fun g => by have := lL g; omega) _) (fun z => pk_lt 27 l (fun z2 => Hb (fun g => by have := lL g; omega) _) (fun z2 => ⟨by decide, i8, ?_⟩)))⟩
  have e12 : (nI l + 12) / 8 = nI (cd_n l) := by rw [nl_ar12, nl_d8 (by omega)]; rfl
  rw [e12]
  have hnl := cd_n_in (l := l) z2
  refine pk_eq (cd_n l) (cd_n L) (fun z3 => ⟨8 * cd_n L - 4 + 1, ?_⟩) (fun z3 => Hb (fun g => z3 (by rw [lL g])) _)
  exact xw_ir73 hc hn.1 hn.2.1 (fun g => Hg (hD.mp g) _) (fun g => Hb (fun g2 => g (hD.mpr g2)) _) (8 * cd_n L - 4) 0 (by omega)
theorem xw_ti52 {post : SX → Prop} {c s b l : Nat} (hc : c < 8) (hs : s < 4) (hb : b < 4) (hl : l ≤ 27) (hI : a_inCount s = nI b) (hL : a_inLength (4 * s + b) = nI l)
    (h : post (f_buffered, f_clock, f_check, a_isOpen, a_from, a_to, a_gap, a_tolerance, a_due, a_frames, a_frameLength, a_frameBytes, a_nextCell, a_number, a_spoiledNumber, a_buffer, a_cell, a_lastSent, a_ahead, a_which, a_isWary, a_queueCount, a_queue, (upd a_inCount s (nI (b + 1))), a_inCircuit, a_inLength, (ar_cp a_inBytes (27 * (4 * s + b)) l (fun j => a_kept (32 * c + j))), a_keptCount, a_isSpoiled, a_keptNumber, a_kept, a_counts)) :
    ∀ (d i : Nat) (ib : Nat → Int32), i + d = l → ib = ar_cp a_inBytes (27 * (4 * s + b)) i (fun j => a_kept (32 * c + j)) → wX_takeIn_52 post (nI s) (nI (4 * s + b)) (nI (32 * c)) f_buffered f_clock f_check (d + 1) (nI i) a_isOpen a_from a_to a_gap a_tolerance a_due a_frames a_frameLength a_frameBytes a_nextCell a_number a_spoiledNumber a_buffer a_cell a_lastSent a_ahead a_which a_isWary a_queueCount a_queue a_inCount a_inCircuit a_inLength ib a_keptCount a_isSpoiled a_keptNumber a_kept a_counts := by
  have ec : (nI s).toNatClampNeg = s := nl_cl (by omega)
  have i4 : vp_in (nI s) 4 := vp_in_nI hs (by decide)
  have e3 : (nI (4 * s + b)).toNatClampNeg = 4 * s + b := nl_cl (by omega)
  intro d
  induction d with
  | zero =>
    intro i ib hi hib
    obtain rfl : i = l := by omega
    subst hib
    refine ⟨vp_in_nI (by omega) (by decide), br_t (by rw [e3, hL]; exact nI_le (Nat.le_refl _) (by omega)) ⟨i4, i4, nm_r (e' := upd a_inCount s (nI (b + 1))) (by rw [ec, hI, nI_1]) h⟩⟩
  | succ d ih =>
    intro i ib hi hib
    have e1 : nI (32 * c) + nI i = nI (32 * c + i) := nI_add _ _
    have e2 : 27 * nI (4 * s + b) + nI i = nI (27 * (4 * s + b) + i) := by rw [nl_m27, nI_add]
    refine ⟨vp_in_nI (by omega) (by decide), br_f (by rw [e3, hL]; exact nI_ge (by omega) (by omega)) ⟨pk_in _ _ (by omega) e1, pk_in _ _ (by omega) e2, nm_e (nm_r (nI_1 i) (ih (i + 1) _ (by omega) ?_))⟩⟩
    rw [e1, e2, nl_cl (by omega), nl_cl (by omega), hib]
    exact ar_S' rfl rfl
theorem xw_takeIn {post : SX → Prop} {c s b l kc : Nat} (hc : c < 8) (hs : s < 4) (hb : b < 4) (hl : l ≤ 27) (hI : a_inCount s = nI b) (h1 : 1 ≤ kc) (h4 : kc ≤ 4) (hK : a_keptCount c = nI kc) (hL : a_kept (32 * c + 8 * kc - 5) = nI l)
    (h : post (f_buffered, f_clock, f_check, a_isOpen, a_from, a_to, a_gap, a_tolerance, a_due, a_frames, a_frameLength, a_frameBytes, a_nextCell, a_number, a_spoiledNumber, a_buffer, a_cell, a_lastSent, a_ahead, a_which, a_isWary, a_queueCount, a_queue, (upd a_inCount s (nI (b + 1))), (upd a_inCircuit (4 * s + b) (nI c)), (upd a_inLength (4 * s + b) (nI l)), (ar_cp a_inBytes (27 * (4 * s + b)) l (fun j => a_kept (32 * c + j))), a_keptCount, a_isSpoiled, a_keptNumber, a_kept, a_counts)) : wpX_takeIn post (f_buffered, f_clock, f_check, a_isOpen, a_from, a_to, a_gap, a_tolerance, a_due, a_frames, a_frameLength, a_frameBytes, a_nextCell, a_number, a_spoiledNumber, a_buffer, a_cell, a_lastSent, a_ahead, a_which, a_isWary, a_queueCount, a_queue, a_inCount, a_inCircuit, a_inLength, a_inBytes, a_keptCount, a_isSpoiled, a_keptNumber, a_kept, a_counts) (nI c) (nI s) := by
  have ec : (nI c).toNatClampNeg = c := nl_cl (by omega)
  have es : (nI s).toNatClampNeg = s := nl_cl (by omega)
  have e3 : (nI (4 * s + b)).toNatClampNeg = 4 * s + b := nl_cl (by omega)
  have i8 : vp_in (nI c) 8 := vp_in_nI hc (by decide)
  have i4 : vp_in (nI s) 4 := vp_in_nI hs (by decide)
  have i16 : vp_in (nI (4 * s + b)) 16 := vp_in_nI (by omega) (by decide)
  have e5 : nI (32 * c) + 8 * nI kc - 5 = nI (32 * c + 8 * kc - 5) := by rw [nl_m8, nI_add, nl_sr5 (by omega)]
  unfold wpX_takeIn
  dsimp only
  rw [ec, es, hI, hK]
  refine ⟨i4, nm_r (by rw [nl_m4, nI_add]) (nm_r (nl_m32 c) ⟨i16, ?_⟩)⟩
  rw [e3, e5, nl_cl (by omega), hL]
  refine nm_e ⟨i8, vp_in_nI (by omega) (by decide), i16, nm_e ⟨l + 1, ?_⟩⟩
  exact xw_ti52 hc hs hb hl hI pk_us h l 0 _ (by omega) (ar_0 _ _ _).symm
/-- finish, when what is kept is no right frame -/
theorem xw_fin_no {post : SX → Prop} {c s : Nat} (hc : c < 8)
    (hR : ∀ P : Int32 → SX → Prop, (∀ ck, P 0 (f_buffered, f_clock, ck, a_isOpen, a_from, a_to, a_gap, a_tolerance, a_due, a_frames, a_frameLength, a_frameBytes, a_nextCell, a_number, a_spoiledNumber, a_buffer, a_cell, a_lastSent, a_ahead, a_which, a_isWary, a_queueCount, a_queue, a_inCount, a_inCircuit, a_inLength, a_inBytes, a_keptCount, a_isSpoiled, a_keptNumber, a_kept, a_counts)) → wpX_isRight P (f_buffered, f_clock, f_check, a_isOpen, a_from, a_to, a_gap, a_tolerance, a_due, a_frames, a_frameLength, a_frameBytes, a_nextCell, a_number, a_spoiledNumber, a_buffer, a_cell, a_lastSent, a_ahead, a_which, a_isWary, a_queueCount, a_queue, a_inCount, a_inCircuit, a_inLength, a_inBytes, a_keptCount, a_isSpoiled, a_keptNumber, a_kept, a_counts) (nI c))
    (h : ∀ ck, post (f_buffered, f_clock, ck, a_isOpen, a_from, a_to, a_gap, a_tolerance, a_due, a_frames, a_frameLength, a_frameBytes, a_nextCell, a_number, a_spoiledNumber, a_buffer, a_cell, a_lastSent, a_ahead, a_which, a_isWary, a_queueCount, a_queue, a_inCount, a_inCircuit, a_inLength, a_inBytes, (upd a_keptCount c 0), (upd a_isSpoiled c 0), a_keptNumber, a_kept, (upd a_counts 5 (a_counts 5 + 1)))) : wpX_finish post (f_buffered, f_clock, f_check, a_isOpen, a_from, a_to, a_gap, a_tolerance, a_due, a_frames, a_frameLength, a_frameBytes, a_nextCell, a_number, a_spoiledNumber, a_buffer, a_cell, a_lastSent, a_ahead, a_which, a_isWary, a_queueCount, a_queue, a_inCount, a_inCircuit, a_inLength, a_inBytes, a_keptCount, a_isSpoiled, a_keptNumber, a_kept, a_counts) (nI c) (nI s) := by
  unfold wpX_finish
  dsimp only
  refine hR _ (fun ck => br_t rfl (nm_e ?_))
  unfold wX_finish_61
  exact xw_forget hc (h ck)
theorem xw_fin_yes {post : SX → Prop} {c s b l kc : Nat} (hc : c < 8) (hs : s < 4) (hb : b ≤ 4) (hI : a_inCount s = nI b) (hl : l ≤ 27) (h1 : 1 ≤ kc) (h4 : kc ≤ 4) (hK : a_keptCount c = nI kc) (hL : a_kept (32 * c + 8 * kc - 5) = nI l)
    (hR : ∀ P : Int32 → SX → Prop, (∀ ck, P 1 (f_buffered, f_clock, ck, a_isOpen, a_from, a_to, a_gap, a_tolerance, a_due, a_frames, a_frameLength, a_frameBytes, a_nextCell, a_number, a_spoiledNumber, a_buffer, a_cell, a_lastSent, a_ahead, a_which, a_isWary, a_queueCount, a_queue, a_inCount, a_inCircuit, a_inLength, a_inBytes, a_keptCount, a_isSpoiled, a_keptNumber, a_kept, a_counts)) → wpX_isRight P (f_buffered, f_clock, f_check, a_isOpen, a_from, a_to, a_gap, a_tolerance, a_due, a_frames, a_frameLength, a_frameBytes, a_nextCell, a_number, a_spoiledNumber, a_buffer, a_cell, a_lastSent, a_ahead, a_which, a_isWary, a_queueCount, a_queue, a_inCount, a_inCircuit, a_inLength, a_inBytes, a_keptCount, a_isSpoiled, a_keptNumber, a_kept, a_counts) (nI c))
    (hm : b = 4 → ∀ ck, post (f_buffered, f_clock, ck, a_isOpen, a_from, a_to, a_gap, a_tolerance, a_due, a_frames, a_frameLength, a_frameBytes, a_nextCell, a_number, a_spoiledNumber, a_buffer, a_cell, a_lastSent, a_ahead, a_which, a_isWary, a_queueCount, a_queue, a_inCount, a_inCircuit, a_inLength, a_inBytes, (upd a_keptCount c 0), (upd a_isSpoiled c 0), a_keptNumber, a_kept, (upd a_counts 6 (a_counts 6 + 1))))
    (hg : b < 4 → ∀ ck, post (f_buffered, f_clock, ck, a_isOpen, a_from, a_to, a_gap, a_tolerance, a_due, a_frames, a_frameLength, a_frameBytes, a_nextCell, a_number, a_spoiledNumber, a_buffer, a_cell, a_lastSent, a_ahead, a_which, a_isWary, a_queueCount, a_queue, (upd a_inCount s (nI (b + 1))), (upd a_inCircuit (4 * s + b) (nI c)), (upd a_inLength (4 * s + b) (nI l)), (ar_cp a_inBytes (27 * (4 * s + b)) l (fun j => a_kept (32 * c + j))), (upd a_keptCount c 0), (upd a_isSpoiled c 0), a_keptNumber, a_kept, (upd a_counts 4 (a_counts 4 + 1)))) : wpX_finish post (f_buffered, f_clock, f_check, a_isOpen, a_from, a_to, a_gap, a_tolerance, a_due, a_frames, a_frameLength, a_frameBytes, a_nextCell, a_number, a_spoiledNumber, a_buffer, a_cell, a_lastSent, a_ahead, a_which, a_isWary, a_queueCount, a_queue, a_inCount, a_inCircuit, a_inLength, a_inBytes, a_keptCount, a_isSpoiled, a_keptNumber, a_kept, a_counts) (nI c) (nI s) := by
  have es : (nI s).toNatClampNeg = s := nl_cl (by omega)
  have i4 : vp_in (nI s) 4 := vp_in_nI hs (by decide)
  unfold wpX_finish
  dsimp only
  refine hR _ (fun ck => ?_)
  dsimp only
  refine br_f (by decide) ⟨i4, ?_⟩
  rw [es, hI]
  refine pk_eq b 4 (fun z => nm_e ?_) (fun z => nm_e (xw_takeIn hc hs (by omega) hl hI h1 h4 hK hL ?_))
  · unfold wX_finish_61
    exact xw_forget hc (hm z ck)
  · dsimp only
    unfold wX_finish_61
    exact xw_forget hc (hg (by omega) ck)
end
end
section
section
variable {f_buffered f_clock f_check : Int32} {a_isOpen a_from a_to a_gap a_tolerance a_due a_frames a_frameLength a_frameBytes a_nextCell a_number a_spoiledNumber a_buffer a_cell a_lastSent a_ahead a_which a_isWary a_queueCount a_queue a_inCount a_inCircuit a_inLength a_inBytes a_keptCount a_isSpoiled a_keptNumber a_kept a_counts : Nat → Int32}
theorem xw_ci153 {post : SX → Prop} {s c z k x kc : Nat} (hI : xm_in a_cell c z k x) (hK : a_keptCount c = nI kc) (hk : kc ≤ 4)
    (h0 : z = 0 → post (f_buffered, f_clock, f_check, a_isOpen, a_from, a_to, a_gap, a_tolerance, a_due, a_frames, a_frameLength, a_frameBytes, a_nextCell, a_number, a_spoiledNumber, a_buffer, a_cell, a_lastSent, a_ahead, a_which, a_isWary, a_queueCount, a_queue, a_inCount, a_inCircuit, a_inLength, a_inBytes, (upd a_keptCount c (nI (min (kc + 1) 4))), a_isSpoiled, a_keptNumber, a_kept, a_counts))
    (h8 : z = 8 → ∀ P : SX → Prop, (∀ {f_buffered f_clock f_check : Int32} {a_isOpen a_from a_to a_gap a_tolerance a_due a_frames a_frameLength a_frameBytes a_nextCell a_number a_spoiledNumber a_buffer a_cell a_lastSent a_ahead a_which a_isWary a_queueCount a_queue a_inCount a_inCircuit a_inLength a_inBytes a_keptCount a_isSpoiled a_keptNumber a_kept a_counts : Nat → Int32}, post (f_buffered, f_clock, f_check, a_isOpen, a_from, a_to, a_gap, a_tolerance, a_due, a_frames, a_frameLength, a_frameBytes, a_nextCell, a_number, a_spoiledNumber, a_buffer, a_cell, a_lastSent, a_ahead, a_which, a_isWary, a_queueCount, a_queue, a_inCount, a_inCircuit, a_inLength, a_inBytes, a_keptCount, a_isSpoiled, a_keptNumber, a_kept, a_counts) → P (f_buffered, f_clock, f_check, a_isOpen, a_from, a_to, a_gap, a_tolerance, a_due, a_frames, a_frameLength, a_frameBytes, a_nextCell, a_number, a_spoiledNumber, a_buffer, a_cell, a_lastSent, a_ahead, a_which, a_isWary, a_queueCount, a_queue, a_inCount, a_inCircuit, a_inLength, a_inBytes, a_keptCount, a_isSpoiled, a_keptNumber, a_kept, a_counts)) → wpX_finish P (f_buffered, f_clock, f_check, a_isOpen, a_from, a_to, a_gap, a_tolerance, a_due, a_frames, a_frameLength, a_frameBytes, a_nextCell, a_number, a_spoiledNumber, a_buffer, a_cell, a_lastSent, a_ahead, a_which, a_isWary, a_queueCount, a_queue, a_inCount, a_inCircuit, a_inLength, a_inBytes, (upd a_keptCount c (nI (min (kc + 1) 4))), a_isSpoiled, a_keptNumber, a_kept, a_counts) (nI c) (nI s)) : wX_comeIn_153 post (nI s) (nI c) f_buffered f_clock f_check a_isOpen a_from a_to a_gap a_tolerance a_due a_frames a_frameLength a_frameBytes a_nextCell a_number a_spoiledNumber a_buffer a_cell a_lastSent a_ahead a_which a_isWary a_queueCount a_queue a_inCount a_inCircuit a_inLength a_inBytes a_keptCount a_isSpoiled a_keptNumber a_kept a_counts := by
  obtain ⟨g0, g1, g2, hc, hk8, hm, hz⟩ := hI
  have ec : (nI c).toNatClampNeg = c := nl_cl (by omega)
  have i8 : vp_in (nI c) 8 := vp_in_nI hc (by decide)
  have K : ∀ zz : Int32, nI kc + zz = nI (min (kc + 1) 4) → wX_comeIn_175 post (nI s) (nI c) zz (nI kc) (nI c) f_buffered f_clock f_check a_isOpen a_from a_to a_gap a_tolerance a_due a_frames a_frameLength a_frameBytes a_nextCell a_number a_spoiledNumber a_buffer a_cell a_lastSent a_ahead a_which a_isWary a_queueCount a_queue a_inCount a_inCircuit a_inLength a_inBytes a_keptCount a_isSpoiled a_keptNumber a_kept a_counts := by
    intro zz hzz
    unfold wX_comeIn_175
    rw [ec, hzz, g0]
    refine ⟨i8, nm_e ?_⟩
    rcases hz with g | g
    · subst g
      exact br_f (xm_l8 c hc k hk8) (h8 rfl _ (fun h => h))
    · subst g
      exact br_t (xm_l0 c hc k hk8) (h0 rfl)
  unfold wX_comeIn_153
  rw [ec, hK]
  refine ⟨i8, i8, pk_le 4 kc (fun e => K 0 ?_) (fun e => K 1 ?_)⟩
  · obtain rfl : kc = 4 := by omega
    rfl
  · rw [nI_1, show min (kc + 1) 4 = kc + 1 by omega]
theorem xw_ci114 {post : SX → Prop} {s c k : Nat} (hc : c < 8) (hk : k < 4)
    (h : wX_comeIn_153 post (nI s) (nI c) f_buffered f_clock f_check a_isOpen a_from a_to a_gap a_tolerance a_due a_frames a_frameLength a_frameBytes a_nextCell a_number a_spoiledNumber a_buffer a_cell a_lastSent a_ahead a_which a_isWary a_queueCount a_queue a_inCount a_inCircuit a_inLength a_inBytes a_keptCount a_isSpoiled a_keptNumber (ar_cp a_kept (8 * (4 * c + k)) 8 (fun i => a_cell (4 + i))) a_counts) :
    ∀ (d i : Nat) (ke : Nat → Int32), i + d = 8 → ke = ar_cp a_kept (8 * (4 * c + k)) i (fun i => a_cell (4 + i)) → wX_comeIn_114 post (nI s) (nI c) (nI k) f_buffered f_clock f_check (d + 1) (nI i) a_isOpen a_from a_to a_gap a_tolerance a_due a_frames a_frameLength a_frameBytes a_nextCell a_number a_spoiledNumber a_buffer a_cell a_lastSent a_ahead a_which a_isWary a_queueCount a_queue a_inCount a_inCircuit a_inLength a_inBytes a_keptCount a_isSpoiled a_keptNumber ke a_counts := by
  intro d
  induction d with
  | zero =>
    intro i ke hi hke
    obtain rfl : i = 8 := by omega
    subst hke
    exact br_t (nI_le (a := 8) (b := 8) (by omega) (by omega)) h
  | succ d ih =>
    intro i ke hi hke
    have e1 : 8 * (4 * nI c + nI k) + nI i = nI (8 * (4 * c + k) + i) := by rw [nl_m4, nI_add, nl_m8, nI_add]
    have e2 : 4 + nI i = nI (4 + i) := nl_al4 i
    refine br_f (nI_ge (b := 8) (by omega) (by omega)) ⟨pk_in _ _ (by omega) e2, pk_in _ _ (by omega) e1, nm_e (nm_r (nI_1 i) (ih (i + 1) _ (by omega) ?_))⟩
    rw [e1, e2, nl_cl (by omega), nl_cl (by omega), hke]
    exact ar_S' rfl rfl
theorem xw_comeIn {post : SX → Prop} {s c z k x kc : Nat} (hI : xm_in a_cell c z k x) (hk4 : k < 4) (hK : a_keptCount c = nI kc) (hk : kc ≤ 4)
    (H0 : a_isSpoiled c = 0 ∧ k = kc ∧ (k = 0 ∨ a_keptNumber c = nI x) → z = 0 → post (f_buffered, f_clock, f_check, a_isOpen, a_from, a_to, a_gap, a_tolerance, a_due, a_frames, a_frameLength, a_frameBytes, a_nextCell, a_number, a_spoiledNumber, a_buffer, a_cell, a_lastSent, a_ahead, a_which, a_isWary, a_queueCount, a_queue, a_inCount, a_inCircuit, a_inLength, a_inBytes, (upd a_keptCount c (nI (min (kc + 1) 4))), (upd a_isSpoiled c 0), (upd a_keptNumber c (nI x)), (ar_cp a_kept (8 * (4 * c + k)) 8 (fun i => a_cell (4 + i))), a_counts))
    (H8 : a_isSpoiled c = 0 ∧ k = kc ∧ (k = 0 ∨ a_keptNumber c = nI x) → z = 8 → ∀ P : SX → Prop, (∀ {f_buffered f_clock f_check : Int32} {a_isOpen a_from a_to a_gap a_tolerance a_due a_frames a_frameLength a_frameBytes a_nextCell a_number a_spoiledNumber a_buffer a_cell a_lastSent a_ahead a_which a_isWary a_queueCount a_queue a_inCount a_inCircuit a_inLength a_inBytes a_keptCount a_isSpoiled a_keptNumber a_kept a_counts : Nat → Int32}, post (f_buffered, f_clock, f_check, a_isOpen, a_from, a_to, a_gap, a_tolerance, a_due, a_frames, a_frameLength, a_frameBytes, a_nextCell, a_number, a_spoiledNumber, a_buffer, a_cell, a_lastSent, a_ahead, a_which, a_isWary, a_queueCount, a_queue, a_inCount, a_inCircuit, a_inLength, a_inBytes, a_keptCount, a_isSpoiled, a_keptNumber, a_kept, a_counts) → P (f_buffered, f_clock, f_check, a_isOpen, a_from, a_to, a_gap, a_tolerance, a_due, a_frames, a_frameLength, a_frameBytes, a_nextCell, a_number, a_spoiledNumber, a_buffer, a_cell, a_lastSent, a_ahead, a_which, a_isWary, a_queueCount, a_queue, a_inCount, a_inCircuit, a_inLength, a_inBytes, a_keptCount, a_isSpoiled, a_keptNumber, a_kept, a_counts)) → wpX_finish P (f_buffered, f_clock, f_check, a_isOpen, a_from, a_to, a_gap, a_tolerance, a_due, a_frames, a_frameLength, a_frameBytes, a_nextCell, a_number, a_spoiledNumber, a_buffer, a_cell, a_lastSent, a_ahead, a_which, a_isWary, a_queueCount, a_queue, a_inCount, a_inCircuit, a_inLength, a_inBytes, (upd a_keptCount c (nI (min (kc + 1) 4))), (upd a_isSpoiled c 0), (upd a_keptNumber c (nI x)), (ar_cp a_kept (8 * (4 * c + k)) 8 (fun i => a_cell (4 + i))), a_counts) (nI c) (nI s))
    (G0 : ¬ (a_isSpoiled c = 0 ∧ k = kc ∧ (k = 0 ∨ a_keptNumber c = nI x)) → z = 0 → post (f_buffered, f_clock, f_check, a_isOpen, a_from, a_to, a_gap, a_tolerance, a_due, a_frames, a_frameLength, a_frameBytes, a_nextCell, a_number, a_spoiledNumber, a_buffer, a_cell, a_lastSent, a_ahead, a_which, a_isWary, a_queueCount, a_queue, a_inCount, a_inCircuit, a_inLength, a_inBytes, (upd a_keptCount c (nI (min (kc + 1) 4))), (upd a_isSpoiled c 1), (upd a_keptNumber c (nI x)), a_kept, a_counts))
    (G8 : ¬ (a_isSpoiled c = 0 ∧ k = kc ∧ (k = 0 ∨ a_keptNumber c = nI x)) → z = 8 → ∀ P : SX → Prop, (∀ {f_buffered f_clock f_check : Int32} {a_isOpen a_from a_to a_gap a_tolerance a_due a_frames a_frameLength a_frameBytes a_nextCell a_number a_spoiledNumber a_buffer a_cell a_lastSent a_ahead a_which a_isWary a_queueCount a_queue a_inCount a_inCircuit a_inLength a_inBytes a_keptCount a_isSpoiled a_keptNumber a_kept a_counts : Nat → Int32}, post (f_buffered, f_clock, f_check, a_isOpen, a_from, a_to, a_gap, a_tolerance, a_due, a_frames, a_frameLength, a_frameBytes, a_nextCell, a_number, a_spoiledNumber, a_buffer, a_cell, a_lastSent, a_ahead, a_which, a_isWary, a_queueCount, a_queue, a_inCount, a_inCircuit, a_inLength, a_inBytes, a_keptCount, a_isSpoiled, a_keptNumber, a_kept, a_counts) → P (f_buffered, f_clock, f_check, a_isOpen, a_from, a_to, a_gap, a_tolerance, a_due, a_frames, a_frameLength, a_frameBytes, a_nextCell, a_number, a_spoiledNumber, a_buffer, a_cell, a_lastSent, a_ahead, a_which, a_isWary, a_queueCount, a_queue, a_inCount, a_inCircuit, a_inLength, a_inBytes, a_keptCount, a_isSpoiled, a_keptNumber, a_kept, a_counts)) → wpX_finish P (f_buffered, f_clock, f_check, a_isOpen, a_from, a_to, a_gap, a_tolerance, a_due, a_frames, a_frameLength, a_frameBytes, a_nextCell, a_number, a_spoiledNumber, a_buffer, a_cell, a_lastSent, a_ahead, a_which, a_isWary, a_queueCount, a_queue, a_inCount, a_inCircuit, a_inLength, a_inBytes, (upd a_keptCount c (nI (min (kc + 1) 4))), (upd a_isSpoiled c 1), (upd a_keptNumber c (nI x)), a_kept, a_counts) (nI c) (nI s)) :
    wpX_comeIn post (f_buffered, f_clock, f_check, a_isOpen, a_from, a_to, a_gap, a_tolerance, a_due, a_frames, a_frameLength, a_frameBytes, a_nextCell, a_number, a_spoiledNumber, a_buffer, a_cell, a_lastSent, a_ahead, a_which, a_isWary, a_queueCount, a_queue, a_inCount, a_inCircuit, a_inLength, a_inBytes, a_keptCount, a_isSpoiled, a_keptNumber, a_kept, a_counts) (nI s) := by
  have hI' := hI
  obtain ⟨g0, g1, g2, hc, hk8, hm, hz⟩ := hI
  have ec : (nI c).toNatClampNeg = c := nl_cl (by omega)
  have i8 : vp_in (nI c) 8 := vp_in_nI hc (by decide)
  have ek : nI (16 * c + z + k) &&& 7 = nI k := by
    rcases hz with g | g
    · subst g; exact xm_k8 c hc k hk8
    · subst g; exact xm_k0 c hc k hk8
  have K89 : ¬ (a_isSpoiled c = 0 ∧ k = kc ∧ (k = 0 ∨ a_keptNumber c = nI x)) → wX_comeIn_89 post (nI s) (nI c) (nI x) (nI k) (nI c) f_buffered f_clock f_check a_isOpen a_from a_to a_gap a_tolerance a_due a_frames a_frameLength a_frameBytes a_nextCell a_number a_spoiledNumber a_buffer a_cell a_lastSent a_ahead a_which a_isWary a_queueCount a_queue a_inCount a_inCircuit a_inLength a_inBytes a_keptCount a_isSpoiled a_keptNumber a_kept a_counts := by
    intro hN
    unfold wX_comeIn_89 wX_comeIn_94
    refine ⟨i8, nm_r (e' := upd a_isSpoiled c 1) (by rw [ec, nl_b1]) ⟨i8, nm_r (e' := upd a_keptNumber c (nI x)) (by rw [ec]) ⟨i8, br_f (by rw [ec, pk_us]; decide) ?_⟩⟩⟩
    exact xw_ci153 hI' hK hk (G0 hN) (G8 hN)
  have K68 : ∀ zz : Int32, (zz = 0 ↔ ¬ (k = kc ∧ (k = 0 ∨ a_keptNumber c = nI x))) → wX_comeIn_68 post (nI s) (nI c) (nI x) (nI k) zz f_buffered f_clock f_check a_isOpen a_from a_to a_gap a_tolerance a_due a_frames a_frameLength a_frameBytes a_nextCell a_number a_spoiledNumber a_buffer a_cell a_lastSent a_ahead a_which a_isWary a_queueCount a_queue a_inCount a_inCircuit a_inLength a_inBytes a_keptCount a_isSpoiled a_keptNumber a_kept a_counts := by
    intro zz hzz
    unfold wX_comeIn_68
    rw [ec]
    refine ⟨i8, br_c (fun e => br_c (fun e2 => K89 (fun g => hzz.mp e2 g.2)) (fun e2 => ?_)) (fun e => K89 (fun g => e g.1))⟩
    have hP : a_isSpoiled c = 0 ∧ k = kc ∧ (k = 0 ∨ a_keptNumber c = nI x) := ⟨e, Classical.not_not.mp (fun g => e2 (hzz.mpr g))⟩
    unfold wX_comeIn_94
    refine ⟨i8, nm_r (e' := upd a_isSpoiled c 0) (by rw [ec, nl_b0]) ⟨i8, nm_r (e' := upd a_keptNumber c (nI x)) (by rw [ec]) ⟨i8, br_t (by rw [ec, pk_us]) ⟨9, ?_⟩⟩⟩⟩
    refine xw_ci114 hc hk4 ?_ 8 0 _ rfl (ar_0 _ _ _).symm
    exact xw_ci153 hI' hK hk (H0 hP) (H8 hP)
  unfold wpX_comeIn
  dsimp only
  rw [g0, g1, g2]
  refine nm_r (xm_c hc (by omega)) (nm_r (xm_own hm) (nm_r ek ⟨i8, ?_⟩))
  rw [ec, hK]
  refine pk_eq k kc (fun e => pk_eq k 0 (fun e2 => ?_) (fun e2 => ⟨i8, br_c (fun e3 => ?_) (fun e3 => ?_)⟩)) (fun e => ?_)
  · exact K68 1 ⟨fun g => absurd g (by decide), fun g => absurd ⟨e, Or.inl e2⟩ g⟩
  · exact K68 1 ⟨fun g => absurd g (by decide), fun g => absurd ⟨e, Or.inr e3⟩ g⟩
  · exact K68 0 ⟨fun _ g => g.2.elim e2 e3, fun _ => rfl⟩
  · exact K68 0 ⟨fun _ g => e g.1, fun _ => rfl⟩
theorem xw_dl55 {post : SX → Prop} {s q : Nat} (hs : s < 4) (hq : q < 6) (hQ : a_queueCount s = nI q)
    (h : ∀ P : SX → Prop, (∀ {f_buffered f_clock f_check : Int32} {a_isOpen a_from a_to a_gap a_tolerance a_due a_frames a_frameLength a_frameBytes a_nextCell a_number a_spoiledNumber a_buffer a_cell a_lastSent a_ahead a_which a_isWary a_queueCount a_queue a_inCount a_inCircuit a_inLength a_inBytes a_keptCount a_isSpoiled a_keptNumber a_kept a_counts : Nat → Int32}, post (f_buffered, f_clock, f_check, a_isOpen, a_from, a_to, a_gap, a_tolerance, a_due, a_frames, a_frameLength, a_frameBytes, a_nextCell, a_number, a_spoiledNumber, a_buffer, a_cell, a_lastSent, a_ahead, a_which, a_isWary, a_queueCount, a_queue, a_inCount, a_inCircuit, a_inLength, a_inBytes, a_keptCount, a_isSpoiled, a_keptNumber, a_kept, a_counts) → P (f_buffered, f_clock, f_check, a_isOpen, a_from, a_to, a_gap, a_tolerance, a_due, a_frames, a_frameLength, a_frameBytes, a_nextCell, a_number, a_spoiledNumber, a_buffer, a_cell, a_lastSent, a_ahead, a_which, a_isWary, a_queueCount, a_queue, a_inCount, a_inCircuit, a_inLength, a_inBytes, a_keptCount, a_isSpoiled, a_keptNumber, a_kept, a_counts)) → wpX_comeIn P (f_buffered, f_clock, f_check, a_isOpen, a_from, a_to, a_gap, a_tolerance, a_due, a_frames, a_frameLength, a_frameBytes, a_nextCell, a_number, a_spoiledNumber, a_buffer, a_cell, a_lastSent, a_ahead, a_which, a_isWary, a_queueCount, (ar_cp a_queue (72 * s) (12 * q) (fun j => a_queue (72 * s + j + 12))), a_inCount, a_inCircuit, a_inLength, a_inBytes, a_keptCount, a_isSpoiled, a_keptNumber, a_kept, a_counts) (nI s)) :
    ∀ (d i : Nat) (qu : Nat → Int32), i + d = 12 * q → qu = ar_cp a_queue (72 * s) i (fun j => a_queue (72 * s + j + 12)) → wX_deliverTo_55 post (nI s) (nI (72 * s)) f_buffered f_clock f_check (d + 1) (nI (72 * s + i)) a_isOpen a_from a_to a_gap a_tolerance a_due a_frames a_frameLength a_frameBytes a_nextCell a_number a_spoiledNumber a_buffer a_cell a_lastSent a_ahead a_which a_isWary a_queueCount qu a_inCount a_inCircuit a_inLength a_inBytes a_keptCount a_isSpoiled a_keptNumber a_kept a_counts := by
  have ec : (nI s).toNatClampNeg = s := nl_cl (by omega)
  have i4 : vp_in (nI s) 4 := vp_in_nI hs (by decide)
  have e0 : nI (72 * s) + 12 * a_queueCount (nI s).toNatClampNeg = nI (72 * s + 12 * q) := by rw [ec, hQ, nl_m12, nI_add]
  intro d
  induction d with
  | zero =>
    intro i qu hi hqu
    obtain rfl : i = 12 * q := by omega
    subst hqu
    refine ⟨i4, br_t (by rw [e0]; exact nI_le (Nat.le_refl _) (by omega)) ?_⟩
    exact h _ (fun g => g)
  | succ d ih =>
    intro i qu hi hqu
    have e1 : nI (72 * s + i) + 12 = nI (72 * s + i + 12) := nl_ar12 _
    refine ⟨i4, br_f (by rw [e0]; exact nI_ge (by omega) (by omega)) ⟨pk_in _ _ (by omega) e1, vp_in_nI (by omega) (by decide), nm_e (nm_r (nI_1 _) (ih (i + 1) _ (by omega) ?_))⟩⟩
    rw [e1, nl_cl (by omega), nl_cl (by omega), hqu]
    exact ar_S' rfl (ar_out _ _ (by omega))
theorem xw_dl17 {post : SX → Prop} {s q : Nat} (hs : s < 4) (hq : q < 6) (hQ : a_queueCount s = nI (q + 1))
    (h : ∀ P : SX → Prop, (∀ {f_buffered f_clock f_check : Int32} {a_isOpen a_from a_to a_gap a_tolerance a_due a_frames a_frameLength a_frameBytes a_nextCell a_number a_spoiledNumber a_buffer a_cell a_lastSent a_ahead a_which a_isWary a_queueCount a_queue a_inCount a_inCircuit a_inLength a_inBytes a_keptCount a_isSpoiled a_keptNumber a_kept a_counts : Nat → Int32}, post (f_buffered, f_clock, f_check, a_isOpen, a_from, a_to, a_gap, a_tolerance, a_due, a_frames, a_frameLength, a_frameBytes, a_nextCell, a_number, a_spoiledNumber, a_buffer, a_cell, a_lastSent, a_ahead, a_which, a_isWary, a_queueCount, a_queue, a_inCount, a_inCircuit, a_inLength, a_inBytes, a_keptCount, a_isSpoiled, a_keptNumber, a_kept, a_counts) → P (f_buffered, f_clock, f_check, a_isOpen, a_from, a_to, a_gap, a_tolerance, a_due, a_frames, a_frameLength, a_frameBytes, a_nextCell, a_number, a_spoiledNumber, a_buffer, a_cell, a_lastSent, a_ahead, a_which, a_isWary, a_queueCount, a_queue, a_inCount, a_inCircuit, a_inLength, a_inBytes, a_keptCount, a_isSpoiled, a_keptNumber, a_kept, a_counts)) → wpX_comeIn P (f_buffered, f_clock, f_check, a_isOpen, a_from, a_to, a_gap, a_tolerance, a_due, a_frames, a_frameLength, a_frameBytes, a_nextCell, a_number, a_spoiledNumber, a_buffer, (ar_cp a_cell 0 12 (fun i => a_queue (72 * s + i))), a_lastSent, a_ahead, a_which, a_isWary, (upd a_queueCount s (nI q)), (ar_cp a_queue (72 * s) (12 * q) (fun j => a_queue (72 * s + j + 12))), a_inCount, a_inCircuit, a_inLength, a_inBytes, a_keptCount, a_isSpoiled, a_keptNumber, a_kept, a_counts) (nI s)) :
    ∀ (d i : Nat) (ce : Nat → Int32), i + d = 12 → ce = ar_cp a_cell 0 i (fun i => a_queue (72 * s + i)) → wX_deliverTo_17 post (nI s) (nI (72 * s)) f_buffered f_clock f_check (d + 1) (nI i) a_isOpen a_from a_to a_gap a_tolerance a_due a_frames a_frameLength a_frameBytes a_nextCell a_number a_spoiledNumber a_buffer ce a_lastSent a_ahead a_which a_isWary a_queueCount a_queue a_inCount a_inCircuit a_inLength a_inBytes a_keptCount a_isSpoiled a_keptNumber a_kept a_counts := by
  have ec : (nI s).toNatClampNeg = s := nl_cl (by omega)
  have i4 : vp_in (nI s) 4 := vp_in_nI hs (by decide)
  intro d
  induction d with
  | zero =>
    intro i ce hi hce
    obtain rfl : i = 12 := by omega
    subst hce
    refine br_t (nI_le (a := 12) (b := 12) (by omega) (by omega)) ⟨i4, i4, nm_r (e' := upd a_queueCount s (nI q)) (by rw [ec, hQ, nI_pred]) ⟨12 * q + 1, ?_⟩⟩
    exact xw_dl55 hs hq pk_us h (12 * q) 0 _ (by omega) (ar_0 _ _ _).symm
  | succ d ih =>
    intro i ce hi hce
    have e1 : nI (72 * s) + nI i = nI (72 * s + i) := nI_add _ _
    refine br_f (nI_ge (b := 12) (by omega) (by omega)) ⟨pk_in _ _ (by omega) e1, vp_in_nI (by omega) (by decide), nm_e (nm_r (nI_1 i) (ih (i + 1) _ (by omega) ?_))⟩
    rw [e1, nl_cl (by omega), nl_cl (by omega), hce]
    exact ar_S' (by omega) rfl
theorem xw_deliver {post : SX → Prop} {s q : Nat} (hs : s < 4) (hq : q < 6) (hQ : a_queueCount s = nI (q + 1))
    (h : ∀ P : SX → Prop, (∀ {f_buffered f_clock f_check : Int32} {a_isOpen a_from a_to a_gap a_tolerance a_due a_frames a_frameLength a_frameBytes a_nextCell a_number a_spoiledNumber a_buffer a_cell a_lastSent a_ahead a_which a_isWary a_queueCount a_queue a_inCount a_inCircuit a_inLength a_inBytes a_keptCount a_isSpoiled a_keptNumber a_kept a_counts : Nat → Int32}, post (f_buffered, f_clock, f_check, a_isOpen, a_from, a_to, a_gap, a_tolerance, a_due, a_frames, a_frameLength, a_frameBytes, a_nextCell, a_number, a_spoiledNumber, a_buffer, a_cell, a_lastSent, a_ahead, a_which, a_isWary, a_queueCount, a_queue, a_inCount, a_inCircuit, a_inLength, a_inBytes, a_keptCount, a_isSpoiled, a_keptNumber, a_kept, a_counts) → P (f_buffered, f_clock, f_check, a_isOpen, a_from, a_to, a_gap, a_tolerance, a_due, a_frames, a_frameLength, a_frameBytes, a_nextCell, a_number, a_spoiledNumber, a_buffer, a_cell, a_lastSent, a_ahead, a_which, a_isWary, a_queueCount, a_queue, a_inCount, a_inCircuit, a_inLength, a_inBytes, a_keptCount, a_isSpoiled, a_keptNumber, a_kept, a_counts)) → wpX_comeIn P (f_buffered, f_clock, f_check, a_isOpen, a_from, a_to, a_gap, a_tolerance, a_due, a_frames, a_frameLength, a_frameBytes, a_nextCell, a_number, a_spoiledNumber, a_buffer, (ar_cp a_cell 0 12 (fun i => a_queue (72 * s + i))), a_lastSent, a_ahead, a_which, a_isWary, (upd a_queueCount s (nI q)), (ar_cp a_queue (72 * s) (12 * q) (fun j => a_queue (72 * s + j + 12))), a_inCount, a_inCircuit, a_inLength, a_inBytes, a_keptCount, a_isSpoiled, a_keptNumber, a_kept, a_counts) (nI s)) : wpX_deliverTo post (f_buffered, f_clock, f_check, a_isOpen, a_from, a_to, a_gap, a_tolerance, a_due, a_frames, a_frameLength, a_frameBytes, a_nextCell, a_number, a_spoiledNumber, a_buffer, a_cell, a_lastSent, a_ahead, a_which, a_isWary, a_queueCount, a_queue, a_inCount, a_inCircuit, a_inLength, a_inBytes, a_keptCount, a_isSpoiled, a_keptNumber, a_kept, a_counts) (nI s) := by
  have ec : (nI s).toNatClampNeg = s := nl_cl (by omega)
  have i4 : vp_in (nI s) 4 := vp_in_nI hs (by decide)
  unfold wpX_deliverTo
  dsimp only
  rw [ec, hQ]
  refine ⟨i4, br_f (nI_ne0 (by omega) (by omega)) (nm_r (nl_m72 s) ⟨13, ?_⟩)⟩
  exact xw_dl17 hs hq hQ h 12 0 _ rfl (ar_0 _ _ _).symm
theorem xw_deliver0 {post : SX → Prop} {s : Nat} (hs : s < 4) (hQ : a_queueCount s = nI 0) (h : post (f_buffered, f_clock, f_check, a_isOpen, a_from, a_to, a_gap, a_tolerance, a_due, a_frames, a_frameLength, a_frameBytes, a_nextCell, a_number, a_spoiledNumber, a_buffer, a_cell, a_lastSent, a_ahead, a_which, a_isWary, a_queueCount, a_queue, a_inCount, a_inCircuit, a_inLength, a_inBytes, a_keptCount, a_isSpoiled, a_keptNumber, a_kept, a_counts)) : wpX_deliverTo post (f_buffered, f_clock, f_check, a_isOpen, a_from, a_to, a_gap, a_tolerance, a_due, a_frames, a_frameLength, a_frameBytes, a_nextCell, a_number, a_spoiledNumber, a_buffer, a_cell, a_lastSent, a_ahead, a_which, a_isWary, a_queueCount, a_queue, a_inCount, a_inCircuit, a_inLength, a_inBytes, a_keptCount, a_isSpoiled, a_keptNumber, a_kept, a_counts) (nI s) := by
  have ec : (nI s).toNatClampNeg = s := nl_cl (by omega)
  have i4 : vp_in (nI s) 4 := vp_in_nI hs (by decide)
  unfold wpX_deliverTo
  dsimp only
  rw [ec, hQ]
  exact ⟨i4, br_t rfl h⟩
end
end
section
theorem ar_uu (f : Nat → Int32) (k : Nat) (x y : Int32) : upd (upd f k x) k y = upd f k y := by
  funext j
  unfold upd
  split <;> rfl
section
variable {f_buffered f_clock f_check b_frames : Int32} {a_isOpen a_from a_to a_gap a_tolerance a_due a_frames a_frameLength a_frameBytes a_nextCell a_number a_spoiledNumber a_buffer a_cell a_lastSent a_ahead a_which a_isWary a_queueCount a_queue a_inCount a_inCircuit a_inLength a_inBytes a_keptCount a_isSpoiled a_keptNumber a_kept a_counts b_waits b_waiting b_sentCells b_kept b_keptOf b_keptMixed b_keptTurned b_numbers b_circuits b_lengths b_spoiled b_bytes b_headAhead b_contentAhead b_queueFrame b_queueLast b_queueTurned b_boxHead b_boxBytes : Nat → Int32}
/-- both sides look for the next circuit alike -/
theorem nc_loop {s l : Nat} {w : Nat → Nat} (hs : s < 4) (hl : l < 8) (hL : a_lastSent s = nI l) (hw : ∀ c, c < 8 → w c ≤ 2) (hF : ∀ c, c < 8 → ¬ a_isOpen c = 0 → a_frames c = nI (w c) ∧ b_waits c = nI (w c)) :
    ∀ (d i : Nat), i + d = 9 → ∃ r : Int32, (r = -1 ∨ ∃ c, c < 8 ∧ r = nI c ∧ ¬ a_isOpen c = 0 ∧ a_from c = nI s ∧ 0 < w c) ∧
      (∀ post : Int32 → Prop, post r → wX_nextCircuit_2 post (nI s) f_buffered f_clock f_check a_isOpen a_from a_to a_gap a_tolerance a_due a_frames a_frameLength a_frameBytes a_nextCell a_number a_spoiledNumber a_buffer a_cell a_lastSent a_ahead a_which a_isWary a_queueCount a_queue a_inCount a_inCircuit a_inLength a_inBytes a_keptCount a_isSpoiled a_keptNumber a_kept a_counts (d + 1) (nI i)) ∧ (∀ post : Int32 → Prop, post r → wY_nextCircuit_2 post (nI s) f_clock f_buffered b_frames a_counts a_buffer a_isOpen a_from a_to a_gap a_tolerance a_due b_waits b_waiting b_sentCells b_kept b_keptOf b_keptMixed b_keptTurned b_numbers b_circuits b_lengths b_spoiled b_bytes a_lastSent b_headAhead b_contentAhead a_isWary a_queueCount b_queueFrame b_queueLast b_queueTurned a_inCount b_boxHead b_boxBytes (d + 1) (nI i)) := by
  have es : (nI s).toNatClampNeg = s := nl_cl (by omega)
  have i4 : vp_in (nI s) 4 := vp_in_nI hs (by decide)
  intro d
  induction d with
  | zero =>
    intro i hi
    obtain rfl : i = 9 := by omega
    exact ⟨-1, Or.inl rfl, fun post h => br_t (by decide) h, fun post h => br_t (by decide) h⟩
  | succ d ih =>
    intro i hi
    have e3 : (a_lastSent (nI s).toNatClampNeg + nI i) - (a_lastSent (nI s).toNatClampNeg + nI i) / 8 * 8 = nI ((l + i) % 8) := by
      rw [es, hL, nI_add, nl_r8 (by omega)]
    have hc : (l + i) % 8 < 8 := Nat.mod_lt _ (by decide)
    generalize (l + i) % 8 = c at e3 hc
    have ec : (nI c).toNatClampNeg = c := nl_cl (by omega)
    have i8 : vp_in (nI c) 8 := vp_in_nI hc (by decide)
    have n8 : ¬ (8 : Int32) < nI i := nI_nlt (b := i) (a := 8) (by omega) (by omega)
    have n9 : ¬ (9 : Int32) ≤ nI i := nI_ge (b := 9) (by omega) (by omega)
    have h80 : ¬ (8 : Int32) = 0 := by decide
    by_cases o : a_isOpen c = 0
    · obtain ⟨r, hr, hX, hY⟩ := ih (i + 1) (by omega)
      refine ⟨r, hr, fun post h => br_f n8 ⟨i4, h80, nm_r e3 ⟨i8, br_t (by rw [ec]; exact o) (nm_r (nI_1 i) (hX post h))⟩⟩, fun post h => br_f n9 ⟨i4, h80, nm_r e3 ⟨i8, br_t (by rw [ec]; exact o) (nm_r (nI_1 i) (hY post h))⟩⟩⟩
    by_cases f : a_from c = nI s
    · obtain ⟨hfr, hwt⟩ := hF c hc o
      have hw2 := hw c hc
      by_cases z : w c = 0
      · obtain ⟨r, hr, hX, hY⟩ := ih (i + 1) (by omega)
        refine ⟨r, hr, fun post h => br_f n8 ⟨i4, h80, nm_r e3 ⟨i8, br_f (by rw [ec]; exact o) ⟨i8, br_t (by rw [ec]; exact f) ⟨i8, br_t (by rw [ec, hfr, z]; decide) (nm_r (nI_1 i) (hX post h))⟩⟩⟩⟩, fun post h => br_f n9 ⟨i4, h80, nm_r e3 ⟨i8, br_f (by rw [ec]; exact o) ⟨i8, br_t (by rw [ec]; exact f) ⟨i8, br_t (by rw [ec, hwt, z]; decide) (nm_r (nI_1 i) (hY post h))⟩⟩⟩⟩⟩
      · refine ⟨nI c, Or.inr ⟨c, hc, rfl, o, f, by omega⟩, fun post h => br_f n8 ⟨i4, h80, nm_r e3 ⟨i8, br_f (by rw [ec]; exact o) ⟨i8, br_t (by rw [ec]; exact f) ⟨i8, br_f (by rw [ec, hfr]; exact nI_nle (by omega) (by omega)) h⟩⟩⟩⟩, fun post h => br_f n9 ⟨i4, h80, nm_r e3 ⟨i8, br_f (by rw [ec]; exact o) ⟨i8, br_t (by rw [ec]; exact f) ⟨i8, br_f (by rw [ec, hwt]; exact nI_nle (by omega) (by omega)) h⟩⟩⟩⟩⟩
    · obtain ⟨r, hr, hX, hY⟩ := ih (i + 1) (by omega)
      refine ⟨r, hr, fun post h => br_f n8 ⟨i4, h80, nm_r e3 ⟨i8, br_f (by rw [ec]; exact o) ⟨i8, br_f (by rw [ec]; exact f) (nm_r (nI_1 i) (hX post h))⟩⟩⟩, fun post h => br_f n9 ⟨i4, h80, nm_r e3 ⟨i8, br_f (by rw [ec]; exact o) ⟨i8, br_f (by rw [ec]; exact f) (nm_r (nI_1 i) (hY post h))⟩⟩⟩⟩
theorem nc_both {s l : Nat} {w : Nat → Nat} (hs : s < 4) (hl : l < 8) (hL : a_lastSent s = nI l) (hw : ∀ c, c < 8 → w c ≤ 2) (hF : ∀ c, c < 8 → ¬ a_isOpen c = 0 → a_frames c = nI (w c) ∧ b_waits c = nI (w c)) :
    ∃ r : Int32, (r = -1 ∨ ∃ c, c < 8 ∧ r = nI c ∧ ¬ a_isOpen c = 0 ∧ a_from c = nI s ∧ 0 < w c) ∧
      (∀ post : Int32 → Prop, post r → wpX_nextCircuit post (f_buffered, f_clock, f_check, a_isOpen, a_from, a_to, a_gap, a_tolerance, a_due, a_frames, a_frameLength, a_frameBytes, a_nextCell, a_number, a_spoiledNumber, a_buffer, a_cell, a_lastSent, a_ahead, a_which, a_isWary, a_queueCount, a_queue, a_inCount, a_inCircuit, a_inLength, a_inBytes, a_keptCount, a_isSpoiled, a_keptNumber, a_kept, a_counts) (nI s)) ∧ (∀ post : Int32 → Prop, post r → wpY_nextCircuit post (f_clock, f_buffered, b_frames, a_counts, a_buffer, a_isOpen, a_from, a_to, a_gap, a_tolerance, a_due, b_waits, b_waiting, b_sentCells, b_kept, b_keptOf, b_keptMixed, b_keptTurned, b_numbers, b_circuits, b_lengths, b_spoiled, b_bytes, a_lastSent, b_headAhead, b_contentAhead, a_isWary, a_queueCount, b_queueFrame, b_queueLast, b_queueTurned, a_inCount, b_boxHead, b_boxBytes) (nI s)) := by
  obtain ⟨r, hr, hX, hY⟩ := nc_loop hs hl hL hw hF 8 1 rfl
  exact ⟨r, hr, fun post h => ⟨9, hX post h⟩, fun post h => ⟨9, hY post h⟩⟩
end
/-- how the reference moves a circuit on -/
def ym_adv (c k l : Nat) (b_sentCells sc b_waits wt b_waiting wg : Nat → Int32) : Prop :=
  (k + 1 = cd_n l → sc = upd b_sentCells c 0 ∧ wt = upd b_waits c (b_waits c - 1) ∧ wg = upd b_waiting (2 * c) (b_waiting (2 * c + 1))) ∧
  (k + 1 ≠ cd_n l → sc = upd b_sentCells c (nI (k + 1)) ∧ wt = b_waits ∧ wg = b_waiting)
theorem ym_ex (c k l : Nat) (b_sentCells b_waits b_waiting : Nat → Int32) : ∃ sc wt wg, ym_adv c k l b_sentCells sc b_waits wt b_waiting wg := by
  by_cases z : k + 1 = cd_n l
  · exact ⟨_, _, _, fun _ => ⟨rfl, rfl, rfl⟩, fun g => absurd z g⟩
  · exact ⟨_, _, _, fun g => absurd g z, fun _ => ⟨rfl, rfl, rfl⟩⟩
section
variable {f_clock f_buffered b_frames : Int32} {a_counts a_buffer a_isOpen a_from a_to a_gap a_tolerance a_due b_waits b_waiting b_sentCells b_kept b_keptOf b_keptMixed b_keptTurned b_numbers b_circuits b_lengths b_spoiled b_bytes a_lastSent b_headAhead b_contentAhead a_isWary a_queueCount b_queueFrame b_queueLast b_queueTurned a_inCount b_boxHead b_boxBytes : Nat → Int32}
theorem yw_cells {post : Int32 → Prop} {p l : Nat} (hp : p < 64) (hL : b_lengths p = nI l) (hl : l ≤ 27) (h : post (nI (cd_n l))) : wpY_cellsOf post (f_clock, f_buffered, b_frames, a_counts, a_buffer, a_isOpen, a_from, a_to, a_gap, a_tolerance, a_due, b_waits, b_waiting, b_sentCells, b_kept, b_keptOf, b_keptMixed, b_keptTurned, b_numbers, b_circuits, b_lengths, b_spoiled, b_bytes, a_lastSent, b_headAhead, b_contentAhead, a_isWary, a_queueCount, b_queueFrame, b_queueLast, b_queueTurned, a_inCount, b_boxHead, b_boxBytes) (nI p) := by
  have e12 : (nI l + 12) / 8 = nI (cd_n l) := by rw [nl_ar12, nl_d8 (by omega)]; rfl
  unfold wpY_cellsOf
  dsimp only
  rw [nl_cl (by omega), hL, e12]
  exact ⟨vp_in_nI hp (by decide), by decide, h⟩
theorem yw_mid {post : SY → Prop} {s c k l p : Nat} {hv tv : Int32} {sc wt wg : Nat → Int32} (hnx : ∀ P : Int32 → Prop, P (nI c) → wpY_nextCircuit P (f_clock, f_buffered, b_frames, a_counts, a_buffer, a_isOpen, a_from, a_to, a_gap, a_tolerance, a_due, b_waits, b_waiting, b_sentCells, b_kept, b_keptOf, b_keptMixed, b_keptTurned, b_numbers, b_circuits, b_lengths, b_spoiled, b_bytes, a_lastSent, b_headAhead, b_contentAhead, a_isWary, a_queueCount, b_queueFrame, b_queueLast, b_queueTurned, a_inCount, b_boxHead, b_boxBytes) (nI s)) (hs : s < 4)
    (hc : c < 8) (hp : p < 64) (hW : b_waiting (2 * c) = nI p) (hL : b_lengths p = nI l) (hl : l ≤ 27) (hk : k < cd_n l) (hK : b_sentCells c = nI k)
    (hH : b_headAhead s = hv) (hT : b_contentAhead s = tv) (hadv : ym_adv c k l b_sentCells sc b_waits wt b_waiting wg)
    (h : wY_sendFrom_128 post (nI s) (nI c) (nI p) (if k + 1 = cd_n l then 1 else 0) hv tv f_clock f_buffered b_frames a_counts a_buffer a_isOpen a_from a_to a_gap a_tolerance a_due wt wg sc b_kept b_keptOf b_keptMixed b_keptTurned b_numbers b_circuits b_lengths b_spoiled b_bytes (upd a_lastSent s (nI c)) (upd b_headAhead s 0) (upd b_contentAhead s 0) a_isWary a_queueCount b_queueFrame b_queueLast b_queueTurned a_inCount b_boxHead b_boxBytes) : wpY_sendFrom post (f_clock, f_buffered, b_frames, a_counts, a_buffer, a_isOpen, a_from, a_to, a_gap, a_tolerance, a_due, b_waits, b_waiting, b_sentCells, b_kept, b_keptOf, b_keptMixed, b_keptTurned, b_numbers, b_circuits, b_lengths, b_spoiled, b_bytes, a_lastSent, b_headAhead, b_contentAhead, a_isWary, a_queueCount, b_queueFrame, b_queueLast, b_queueTurned, a_inCount, b_boxHead, b_boxBytes) (nI s) := by
  have hn := cd_n_in hl
  have es : (nI s).toNatClampNeg = s := nl_cl (by omega)
  have ec : (nI c).toNatClampNeg = c := nl_cl (by omega)
  have i4 : vp_in (nI s) 4 := vp_in_nI hs (by decide)
  have i8 : vp_in (nI c) 8 := vp_in_nI hc (by decide)
  have i16 : vp_in (nI (2 * c)) 16 := vp_in_nI (by omega) (by decide)
  have i17 : vp_in (nI (2 * c + 1)) 16 := vp_in_nI (by omega) (by decide)
  have e2 : (nI (2 * c)).toNatClampNeg = 2 * c := nl_cl (by omega)
  have e3 : (nI (2 * c + 1)).toNatClampNeg = 2 * c + 1 := nl_cl (by omega)
  unfold wpY_sendFrom
  dsimp only
  refine hnx _ (br_t (nI_pos' (by omega)) ⟨i4, nm_r (e' := upd a_lastSent s (nI c)) (by rw [es]) ?_⟩)
  rw [nl_m2, e2, ec, hW, hK, nI_1]
  refine ⟨i16, nm_e ⟨i8, i8, nm_e ⟨i8, yw_cells hp hL hl ?_⟩⟩⟩
  rw [pk_us]
  obtain ⟨A1, A2⟩ := hadv
  refine pk_eq (k + 1) (cd_n l) (fun z => ?_) (fun z => ?_)
  · obtain ⟨rfl, rfl, rfl⟩ := A1 z
    rw [if_pos z] at h
    unfold wY_sendFrom_56
    rw [es, hH, hT, nl_m2, nl_ar1, e2, e3, ec, ar_uu]
    exact ⟨i4, nm_e ⟨i4, nm_e ⟨i4, nm_e ⟨i4, nm_r (by rw [nl_b0]) (br_f (by decide) ⟨i17, i16, nm_e ⟨i8, i8, nm_e ⟨i8, nm_e h⟩⟩⟩)⟩⟩⟩⟩
  · obtain ⟨rfl, rfl, rfl⟩ := A2 z
    rw [if_neg z] at h
    unfold wY_sendFrom_56
    rw [es, hH, hT]
    exact ⟨i4, nm_e ⟨i4, nm_e ⟨i4, nm_e ⟨i4, nm_r (by rw [nl_b0]) (br_t rfl h)⟩⟩⟩⟩
theorem yw_send0 {post : SY → Prop} {s : Nat} (hnx : ∀ P : Int32 → Prop, P (-1) → wpY_nextCircuit P (f_clock, f_buffered, b_frames, a_counts, a_buffer, a_isOpen, a_from, a_to, a_gap, a_tolerance, a_due, b_waits, b_waiting, b_sentCells, b_kept, b_keptOf, b_keptMixed, b_keptTurned, b_numbers, b_circuits, b_lengths, b_spoiled, b_bytes, a_lastSent, b_headAhead, b_contentAhead, a_isWary, a_queueCount, b_queueFrame, b_queueLast, b_queueTurned, a_inCount, b_boxHead, b_boxBytes) (nI s)) (h : post (f_clock, f_buffered, b_frames, a_counts, a_buffer, a_isOpen, a_from, a_to, a_gap, a_tolerance, a_due, b_waits, b_waiting, b_sentCells, b_kept, b_keptOf, b_keptMixed, b_keptTurned, b_numbers, b_circuits, b_lengths, b_spoiled, b_bytes, a_lastSent, b_headAhead, b_contentAhead, a_isWary, a_queueCount, b_queueFrame, b_queueLast, b_queueTurned, a_inCount, b_boxHead, b_boxBytes)) : wpY_sendFrom post (f_clock, f_buffered, b_frames, a_counts, a_buffer, a_isOpen, a_from, a_to, a_gap, a_tolerance, a_due, b_waits, b_waiting, b_sentCells, b_kept, b_keptOf, b_keptMixed, b_keptTurned, b_numbers, b_circuits, b_lengths, b_spoiled, b_bytes, a_lastSent, b_headAhead, b_contentAhead, a_isWary, a_queueCount, b_queueFrame, b_queueLast, b_queueTurned, a_inCount, b_boxHead, b_boxBytes) (nI s) := by
  unfold wpY_sendFrom
  dsimp only
  exact hnx _ (br_f (by decide) h)
theorem yw_lost {post : SY → Prop} {s a : Nat} {x2 x3 x4 x6 : Int32} (hs : s < 4) (hl : a = 2 ∨ a = 1 ∧ ¬ a_isWary s = 0)
    (h : post (f_clock, f_buffered, b_frames, (upd a_counts 3 (a_counts 3 + 1)), a_buffer, a_isOpen, a_from, a_to, a_gap, a_tolerance, a_due, b_waits, b_waiting, b_sentCells, b_kept, b_keptOf, b_keptMixed, b_keptTurned, b_numbers, b_circuits, b_lengths, b_spoiled, b_bytes, a_lastSent, b_headAhead, b_contentAhead, (upd a_isWary s 1), a_queueCount, b_queueFrame, b_queueLast, b_queueTurned, a_inCount, b_boxHead, b_boxBytes)) : wY_sendFrom_128 post (nI s) x2 x3 x4 (nI (if a = 3 then 0 else a)) x6 f_clock f_buffered b_frames a_counts a_buffer a_isOpen a_from a_to a_gap a_tolerance a_due b_waits b_waiting b_sentCells b_kept b_keptOf b_keptMixed b_keptTurned b_numbers b_circuits b_lengths b_spoiled b_bytes a_lastSent b_headAhead b_contentAhead a_isWary a_queueCount b_queueFrame b_queueLast b_queueTurned a_inCount b_boxHead b_boxBytes := by
  have es : (nI s).toNatClampNeg = s := nl_cl (by omega)
  have i4 : vp_in (nI s) 4 := vp_in_nI hs (by decide)
  unfold wY_sendFrom_128 wpY_isLost
  dsimp only
  rw [es]
  rcases hl with rfl | ⟨rfl, hw⟩
  · refine ⟨i4, nm_e (br_f (by decide) ?_)⟩
    unfold wY_isLost_21
    exact ⟨i4, nm_r (e' := upd a_isWary s 1) (by rw [es, nl_b1]) (br_t rfl (br_f (by decide) (nm_e h)))⟩
  · refine ⟨i4, nm_e (br_f (by decide) ?_)⟩
    unfold wY_isLost_21
    exact ⟨i4, nm_r (e' := upd a_isWary s 1) (by rw [es, nl_b1]) (br_f (by decide) (br_t rfl (br_f hw (br_f (by decide) (nm_e h)))))⟩
theorem yw_pass {post : SY → Prop} {s a : Nat} {wy x2 x3 x4 x6 : Int32} (hs : s < 4) (ha : a ≤ 3) (hl : ¬ (a = 2 ∨ a = 1 ∧ ¬ a_isWary s = 0)) (hwy : wy = (if a = 0 ∨ a = 3 then 0 else 1))
    (h : ∀ P : SY → Prop, (∀ {f_clock f_buffered b_frames : Int32} {a_counts a_buffer a_isOpen a_from a_to a_gap a_tolerance a_due b_waits b_waiting b_sentCells b_kept b_keptOf b_keptMixed b_keptTurned b_numbers b_circuits b_lengths b_spoiled b_bytes a_lastSent b_headAhead b_contentAhead a_isWary a_queueCount b_queueFrame b_queueLast b_queueTurned a_inCount b_boxHead b_boxBytes : Nat → Int32}, post (f_clock, f_buffered, b_frames, a_counts, a_buffer, a_isOpen, a_from, a_to, a_gap, a_tolerance, a_due, b_waits, b_waiting, b_sentCells, b_kept, b_keptOf, b_keptMixed, b_keptTurned, b_numbers, b_circuits, b_lengths, b_spoiled, b_bytes, a_lastSent, b_headAhead, b_contentAhead, a_isWary, a_queueCount, b_queueFrame, b_queueLast, b_queueTurned, a_inCount, b_boxHead, b_boxBytes) → P (f_clock, f_buffered, b_frames, a_counts, a_buffer, a_isOpen, a_from, a_to, a_gap, a_tolerance, a_due, b_waits, b_waiting, b_sentCells, b_kept, b_keptOf, b_keptMixed, b_keptTurned, b_numbers, b_circuits, b_lengths, b_spoiled, b_bytes, a_lastSent, b_headAhead, b_contentAhead, a_isWary, a_queueCount, b_queueFrame, b_queueLast, b_queueTurned, a_inCount, b_boxHead, b_boxBytes)) → wpY_comeToSwitch P (f_clock, f_buffered, b_frames, a_counts, a_buffer, a_isOpen, a_from, a_to, a_gap, a_tolerance, a_due, b_waits, b_waiting, b_sentCells, b_kept, b_keptOf, b_keptMixed, b_keptTurned, b_numbers, b_circuits, b_lengths, b_spoiled, b_bytes, a_lastSent, b_headAhead, b_contentAhead, (upd a_isWary s wy), a_queueCount, b_queueFrame, b_queueLast, b_queueTurned, a_inCount, b_boxHead, b_boxBytes) x2 x3 x4 x6) : wY_sendFrom_128 post (nI s) x2 x3 x4 (nI (if a = 3 then 0 else a)) x6 f_clock f_buffered b_frames a_counts a_buffer a_isOpen a_from a_to a_gap a_tolerance a_due b_waits b_waiting b_sentCells b_kept b_keptOf b_keptMixed b_keptTurned b_numbers b_circuits b_lengths b_spoiled b_bytes a_lastSent b_headAhead b_contentAhead a_isWary a_queueCount b_queueFrame b_queueLast b_queueTurned a_inCount b_boxHead b_boxBytes := by
  have es : (nI s).toNatClampNeg = s := nl_cl (by omega)
  have i4 : vp_in (nI s) 4 := vp_in_nI hs (by decide)
  unfold wY_sendFrom_128 wpY_isLost
  dsimp only
  rw [es]
  rcases (by omega : a = 0 ∨ a = 1 ∨ a = 2 ∨ a = 3) with rfl | rfl | rfl | rfl
  · subst hwy
    refine ⟨i4, nm_e (br_t (by decide) ?_)⟩
    unfold wY_isLost_21
    exact ⟨i4, nm_r (e' := upd a_isWary s 0) (by rw [es, nl_b0]) (br_f (by decide) (br_f (by decide) (br_t rfl (h _ (fun g => g)))))⟩
  · subst hwy
    have hw : a_isWary s = 0 := Classical.not_not.mp (fun g => hl (Or.inr ⟨rfl, g⟩))
    refine ⟨i4, nm_e (br_f (by decide) ?_)⟩
    unfold wY_isLost_21
    exact ⟨i4, nm_r (e' := upd a_isWary s 1) (by rw [es, nl_b1]) (br_f (by decide) (br_t rfl (br_t hw (br_t rfl (h _ (fun g => g))))))⟩
  · exact absurd (Or.inl rfl) hl
  · subst hwy
    refine ⟨i4, nm_e (br_t (by decide) ?_)⟩
    unfold wY_isLost_21
    exact ⟨i4, nm_r (e' := upd a_isWary s 0) (by rw [es, nl_b0]) (br_f (by decide) (br_f (by decide) (br_t rfl (h _ (fun g => g)))))⟩
theorem yw_drop {post : SY → Prop} {p why : Nat} (hp : p < 64) (hw : why < 7) (h : post (f_clock, f_buffered, b_frames, (upd a_counts why (a_counts why + 1)), a_buffer, a_isOpen, a_from, a_to, a_gap, a_tolerance, a_due, b_waits, b_waiting, b_sentCells, b_kept, b_keptOf, b_keptMixed, b_keptTurned, b_numbers, b_circuits, b_lengths, (upd b_spoiled p 1), b_bytes, a_lastSent, b_headAhead, b_contentAhead, a_isWary, a_queueCount, b_queueFrame, b_queueLast, b_queueTurned, a_inCount, b_boxHead, b_boxBytes)) : wpY_dropCell post (f_clock, f_buffered, b_frames, a_counts, a_buffer, a_isOpen, a_from, a_to, a_gap, a_tolerance, a_due, b_waits, b_waiting, b_sentCells, b_kept, b_keptOf, b_keptMixed, b_keptTurned, b_numbers, b_circuits, b_lengths, b_spoiled, b_bytes, a_lastSent, b_headAhead, b_contentAhead, a_isWary, a_queueCount, b_queueFrame, b_queueLast, b_queueTurned, a_inCount, b_boxHead, b_boxBytes) (nI p) (nI why) := by
  have ep : (nI p).toNatClampNeg = p := nl_cl (by omega)
  have ew : (nI why).toNatClampNeg = why := nl_cl (by omega)
  have i7 : vp_in (nI why) 7 := vp_in_nI hw (by decide)
  unfold wpY_dropCell
  dsimp only
  rw [ep, ew, nl_b1]
  exact ⟨vp_in_nI hp (by decide), nm_e ⟨i7, i7, nm_e h⟩⟩
theorem yw_cts96 {post : SY → Prop} {p t q : Nat} {lv tv : Int32} (hp : p < 64) (ht : t < 4) (hQ : a_queueCount t = nI q) (hq : q ≤ 6) (hlv : vp_nar .boolean lv = lv) (htv : vp_nar .boolean tv = tv)
    (hf : q = 6 → post (f_clock, f_buffered, b_frames, (upd a_counts 2 (a_counts 2 + 1)), a_buffer, a_isOpen, a_from, a_to, a_gap, a_tolerance, a_due, b_waits, b_waiting, b_sentCells, b_kept, b_keptOf, b_keptMixed, b_keptTurned, b_numbers, b_circuits, b_lengths, (upd b_spoiled p 1), b_bytes, a_lastSent, b_headAhead, b_contentAhead, a_isWary, a_queueCount, b_queueFrame, b_queueLast, b_queueTurned, a_inCount, b_boxHead, b_boxBytes))
    (ha : q < 6 → post (f_clock, f_buffered, b_frames, a_counts, a_buffer, a_isOpen, a_from, a_to, a_gap, a_tolerance, a_due, b_waits, b_waiting, b_sentCells, b_kept, b_keptOf, b_keptMixed, b_keptTurned, b_numbers, b_circuits, b_lengths, b_spoiled, b_bytes, a_lastSent, b_headAhead, b_contentAhead, a_isWary, (upd a_queueCount t (nI (q + 1))), (upd b_queueFrame (6 * t + q) (nI p)), (upd b_queueLast (6 * t + q) lv), (upd b_queueTurned (6 * t + q) tv), a_inCount, b_boxHead, b_boxBytes)) : wY_comeToSwitch_96 post (nI p) lv tv (nI t) f_clock f_buffered b_frames a_counts a_buffer a_isOpen a_from a_to a_gap a_tolerance a_due b_waits b_waiting b_sentCells b_kept b_keptOf b_keptMixed b_keptTurned b_numbers b_circuits b_lengths b_spoiled b_bytes a_lastSent b_headAhead b_contentAhead a_isWary a_queueCount b_queueFrame b_queueLast b_queueTurned a_inCount b_boxHead b_boxBytes := by
  have et : (nI t).toNatClampNeg = t := nl_cl (by omega)
  have i4 : vp_in (nI t) 4 := vp_in_nI ht (by decide)
  unfold wY_comeToSwitch_96
  rw [et, hQ]
  refine ⟨i4, pk_eq q 6 (fun z => yw_drop (why := 2) hp (by decide) (hf z)) (fun z => ⟨i4, nm_r (e' := nI (6 * t + q)) (by rw [nl_m6, nI_add]) ?_⟩)⟩
  have i24 : vp_in (nI (6 * t + q)) 24 := vp_in_nI (by omega) (by decide)
  rw [nl_cl (by omega), hlv, htv, nI_1]
  exact ⟨i24, nm_e ⟨i24, nm_e ⟨i24, nm_e ⟨i4, i4, nm_e (ha (by omega))⟩⟩⟩⟩
theorem yw_cts {post : SY → Prop} {c p t q : Nat} {lv tv : Int32} (hc : c < 8) (hp : p < 64) (ht : t < 4) (hT : a_to c = nI t) (hQ : a_queueCount t = nI q) (hq : q ≤ 6) (hlv : vp_nar .boolean lv = lv) (htv : vp_nar .boolean tv = tv)
    (he : ¬ a_due c - a_tolerance c ≤ f_clock → post (f_clock, f_buffered, b_frames, (upd a_counts 0 (a_counts 0 + 1)), a_buffer, a_isOpen, a_from, a_to, a_gap, a_tolerance, a_due, b_waits, b_waiting, b_sentCells, b_kept, b_keptOf, b_keptMixed, b_keptTurned, b_numbers, b_circuits, b_lengths, (upd b_spoiled p 1), b_bytes, a_lastSent, b_headAhead, b_contentAhead, a_isWary, a_queueCount, b_queueFrame, b_queueLast, b_queueTurned, a_inCount, b_boxHead, b_boxBytes))
    (hp2 : a_due c - a_tolerance c ≤ f_clock → ∀ dv, dv = (if f_clock ≤ a_due c then a_due c else f_clock) + a_gap c →
      (¬ b_spoiled p = 0 → lv = 0 → post (f_clock, f_buffered, b_frames, (upd a_counts 1 (a_counts 1 + 1)), a_buffer, a_isOpen, a_from, a_to, a_gap, a_tolerance, (upd a_due c dv), b_waits, b_waiting, b_sentCells, b_kept, b_keptOf, b_keptMixed, b_keptTurned, b_numbers, b_circuits, b_lengths, (upd b_spoiled p 1), b_bytes, a_lastSent, b_headAhead, b_contentAhead, a_isWary, a_queueCount, b_queueFrame, b_queueLast, b_queueTurned, a_inCount, b_boxHead, b_boxBytes)) ∧
      ((¬ b_spoiled p = 0 → ¬ lv = 0) → q = 6 → post (f_clock, f_buffered, b_frames, (upd a_counts 2 (a_counts 2 + 1)), a_buffer, a_isOpen, a_from, a_to, a_gap, a_tolerance, (upd a_due c dv), b_waits, b_waiting, b_sentCells, b_kept, b_keptOf, b_keptMixed, b_keptTurned, b_numbers, b_circuits, b_lengths, (upd b_spoiled p 1), b_bytes, a_lastSent, b_headAhead, b_contentAhead, a_isWary, a_queueCount, b_queueFrame, b_queueLast, b_queueTurned, a_inCount, b_boxHead, b_boxBytes)) ∧
      ((¬ b_spoiled p = 0 → ¬ lv = 0) → q < 6 → post (f_clock, f_buffered, b_frames, a_counts, a_buffer, a_isOpen, a_from, a_to, a_gap, a_tolerance, (upd a_due c dv), b_waits, b_waiting, b_sentCells, b_kept, b_keptOf, b_keptMixed, b_keptTurned, b_numbers, b_circuits, b_lengths, b_spoiled, b_bytes, a_lastSent, b_headAhead, b_contentAhead, a_isWary, (upd a_queueCount t (nI (q + 1))), (upd b_queueFrame (6 * t + q) (nI p)), (upd b_queueLast (6 * t + q) lv), (upd b_queueTurned (6 * t + q) tv), a_inCount, b_boxHead, b_boxBytes))) : wpY_comeToSwitch post (f_clock, f_buffered, b_frames, a_counts, a_buffer, a_isOpen, a_from, a_to, a_gap, a_tolerance, a_due, b_waits, b_waiting, b_sentCells, b_kept, b_keptOf, b_keptMixed, b_keptTurned, b_numbers, b_circuits, b_lengths, b_spoiled, b_bytes, a_lastSent, b_headAhead, b_contentAhead, a_isWary, a_queueCount, b_queueFrame, b_queueLast, b_queueTurned, a_inCount, b_boxHead, b_boxBytes) (nI c) (nI p) lv tv := by
  have ec : (nI c).toNatClampNeg = c := nl_cl (by omega)
  have ep : (nI p).toNatClampNeg = p := nl_cl (by omega)
  have i8 : vp_in (nI c) 8 := vp_in_nI hc (by decide)
  have K58 : ∀ dv, a_due c - a_tolerance c ≤ f_clock → dv = (if f_clock ≤ a_due c then a_due c else f_clock) → wY_comeToSwitch_58 post (nI c) (nI p) lv tv dv (nI c) f_clock f_buffered b_frames a_counts a_buffer a_isOpen a_from a_to a_gap a_tolerance a_due b_waits b_waiting b_sentCells b_kept b_keptOf b_keptMixed b_keptTurned b_numbers b_circuits b_lengths b_spoiled b_bytes a_lastSent b_headAhead b_contentAhead a_isWary a_queueCount b_queueFrame b_queueLast b_queueTurned a_inCount b_boxHead b_boxBytes := by
    intro dv hle hdv
    obtain ⟨P1, P2, P3⟩ := hp2 hle (dv + a_gap c) (by rw [hdv])
    unfold wY_comeToSwitch_58
    rw [ec, ep, hT]
    refine ⟨i8, i8, nm_e ⟨i8, nm_e ⟨vp_in_nI hp (by decide), br_c (fun g => ?_) (fun g => br_c (fun g2 => ?_) (fun g2 => ?_))⟩⟩⟩
    · exact yw_cts96 hp ht hQ hq hlv htv (P2 (fun z => absurd g z)) (P3 (fun z => absurd g z))
    · exact yw_drop (why := 1) hp (by decide) (P1 g g2)
    · exact yw_cts96 hp ht hQ hq hlv htv (P2 (fun _ => g2)) (P3 (fun _ => g2))
  unfold wpY_comeToSwitch
  dsimp only
  rw [ec]
  refine ⟨i8, i8, br_c (fun e => ⟨i8, br_c (fun e2 => ⟨i8, ?_⟩) (fun e2 => ?_)⟩) (fun e => yw_drop (why := 0) hp (by decide) (he e))⟩
  · exact K58 _ e (if_pos e2).symm
  · exact K58 _ e (if_neg e2).symm
end
end
section
section
variable {f_clock f_buffered b_frames : Int32} {a_counts a_buffer a_isOpen a_from a_to a_gap a_tolerance a_due b_waits b_waiting b_sentCells b_kept b_keptOf b_keptMixed b_keptTurned b_numbers b_circuits b_lengths b_spoiled b_bytes a_lastSent b_headAhead b_contentAhead a_isWary a_queueCount b_queueFrame b_queueLast b_queueTurned a_inCount b_boxHead b_boxBytes : Nat → Int32}
theorem yw_forget {post : SY → Prop} {c : Nat} (hc : c < 8) (h : post (f_clock, f_buffered, b_frames, a_counts, a_buffer, a_isOpen, a_from, a_to, a_gap, a_tolerance, a_due, b_waits, b_waiting, b_sentCells, (upd b_kept c 0), b_keptOf, (upd b_keptMixed c 0), (upd b_keptTurned c 0), b_numbers, b_circuits, b_lengths, b_spoiled, b_bytes, a_lastSent, b_headAhead, b_contentAhead, a_isWary, a_queueCount, b_queueFrame, b_queueLast, b_queueTurned, a_inCount, b_boxHead, b_boxBytes)) : wpY_forget post (f_clock, f_buffered, b_frames, a_counts, a_buffer, a_isOpen, a_from, a_to, a_gap, a_tolerance, a_due, b_waits, b_waiting, b_sentCells, b_kept, b_keptOf, b_keptMixed, b_keptTurned, b_numbers, b_circuits, b_lengths, b_spoiled, b_bytes, a_lastSent, b_headAhead, b_contentAhead, a_isWary, a_queueCount, b_queueFrame, b_queueLast, b_queueTurned, a_inCount, b_boxHead, b_boxBytes) (nI c) := by
  have ec : (nI c).toNatClampNeg = c := nl_cl (by omega)
  have i8 : vp_in (nI c) 8 := vp_in_nI hc (by decide)
  unfold wpY_forget
  dsimp only
  rw [ec, nl_b0]
  exact ⟨i8, nm_e ⟨i8, nm_e ⟨i8, nm_e h⟩⟩⟩
theorem yw_kf58 {post : SY → Prop} {s p b : Nat} (hs : s < 4) (hp : p < 64) (hb : b < 4) (hB : a_inCount s = nI b)
    (h : post (f_clock, f_buffered, b_frames, (upd a_counts 4 (a_counts 4 + 1)), a_buffer, a_isOpen, a_from, a_to, a_gap, a_tolerance, a_due, b_waits, b_waiting, b_sentCells, b_kept, b_keptOf, b_keptMixed, b_keptTurned, b_numbers, b_circuits, b_lengths, b_spoiled, b_bytes, a_lastSent, b_headAhead, b_contentAhead, a_isWary, a_queueCount, b_queueFrame, b_queueLast, b_queueTurned, (upd a_inCount s (nI (b + 1))), b_boxHead, (ar_cp b_boxBytes (27 * (4 * s + b)) 27 (fun i => b_bytes (27 * p + i))))) :
    ∀ (d i : Nat) (bb : Nat → Int32), i + d = 27 → bb = ar_cp b_boxBytes (27 * (4 * s + b)) i (fun i => b_bytes (27 * p + i)) → wY_keepFrame_58 post (nI s) (nI p) (nI (4 * s + b)) f_clock f_buffered b_frames (d + 1) (nI i) a_counts a_buffer a_isOpen a_from a_to a_gap a_tolerance a_due b_waits b_waiting b_sentCells b_kept b_keptOf b_keptMixed b_keptTurned b_numbers b_circuits b_lengths b_spoiled b_bytes a_lastSent b_headAhead b_contentAhead a_isWary a_queueCount b_queueFrame b_queueLast b_queueTurned a_inCount b_boxHead bb := by
  have es : (nI s).toNatClampNeg = s := nl_cl (by omega)
  have i4 : vp_in (nI s) 4 := vp_in_nI hs (by decide)
  intro d
  induction d with
  | zero =>
    intro i bb hi hbb
    obtain rfl : i = 27 := by omega
    subst hbb
    exact br_t (nI_le (a := 27) (b := 27) (by omega) (by omega)) ⟨i4, i4, nm_r (e' := upd a_inCount s (nI (b + 1))) (by rw [es, hB, nI_1]) (nm_e h)⟩
  | succ d ih =>
    intro i bb hi hbb
    have e1 : 27 * nI p + nI i = nI (27 * p + i) := by rw [nl_m27, nI_add]
    have e2 : 27 * nI (4 * s + b) + nI i = nI (27 * (4 * s + b) + i) := by rw [nl_m27, nI_add]
    refine br_f (nI_ge (b := 27) (by omega) (by omega)) ⟨pk_in _ _ (by omega) e1, pk_in _ _ (by omega) e2, nm_e (nm_r (nI_1 i) (ih (i + 1) _ (by omega) ?_))⟩
    rw [e1, e2, nl_cl (by omega), nl_cl (by omega), hbb]
    exact ar_S' rfl rfl
theorem yw_keep {post : SY → Prop} {s p b c l : Nat} (hs : s < 4) (hp : p < 64) (hb : b ≤ 4) (hB : a_inCount s = nI b) (hC : b_circuits p = nI c) (hL : b_lengths p = nI l)
    (hm : b = 4 → post (f_clock, f_buffered, b_frames, (upd a_counts 6 (a_counts 6 + 1)), a_buffer, a_isOpen, a_from, a_to, a_gap, a_tolerance, a_due, b_waits, b_waiting, b_sentCells, b_kept, b_keptOf, b_keptMixed, b_keptTurned, b_numbers, b_circuits, b_lengths, b_spoiled, b_bytes, a_lastSent, b_headAhead, b_contentAhead, a_isWary, a_queueCount, b_queueFrame, b_queueLast, b_queueTurned, a_inCount, b_boxHead, b_boxBytes))
    (hg : b < 4 → post (f_clock, f_buffered, b_frames, (upd a_counts 4 (a_counts 4 + 1)), a_buffer, a_isOpen, a_from, a_to, a_gap, a_tolerance, a_due, b_waits, b_waiting, b_sentCells, b_kept, b_keptOf, b_keptMixed, b_keptTurned, b_numbers, b_circuits, b_lengths, b_spoiled, b_bytes, a_lastSent, b_headAhead, b_contentAhead, a_isWary, a_queueCount, b_queueFrame, b_queueLast, b_queueTurned, (upd a_inCount s (nI (b + 1))), (upd b_boxHead (4 * s + b) (nI (32 * c + l))), (ar_cp b_boxBytes (27 * (4 * s + b)) 27 (fun i => b_bytes (27 * p + i))))) : wpY_keepFrame post (f_clock, f_buffered, b_frames, a_counts, a_buffer, a_isOpen, a_from, a_to, a_gap, a_tolerance, a_due, b_waits, b_waiting, b_sentCells, b_kept, b_keptOf, b_keptMixed, b_keptTurned, b_numbers, b_circuits, b_lengths, b_spoiled, b_bytes, a_lastSent, b_headAhead, b_contentAhead, a_isWary, a_queueCount, b_queueFrame, b_queueLast, b_queueTurned, a_inCount, b_boxHead, b_boxBytes) (nI s) (nI p) := by
  have es : (nI s).toNatClampNeg = s := nl_cl (by omega)
  have i4 : vp_in (nI s) 4 := vp_in_nI hs (by decide)
  have i64 : vp_in (nI p) 64 := vp_in_nI hp (by decide)
  unfold wpY_keepFrame
  dsimp only
  rw [es, hB, nl_cl (show p < 2147483648 by omega), hC, hL, nl_m32, nI_add]
  refine ⟨i4, pk_eq b 4 (fun z => nm_e (hm z)) (fun z => ⟨i4, nm_r (e' := nI (4 * s + b)) (by rw [nl_m4, nI_add]) ⟨i64, i64, vp_in_nI (by omega) (by decide), ?_⟩⟩)⟩
  rw [nl_cl (by omega)]
  refine nm_e ⟨28, ?_⟩
  exact yw_kf58 hs hp (by omega) hB (hg (by omega)) 27 0 _ rfl (ar_0 _ _ _).symm
theorem yw_cs269_0 {post : SY → Prop} {s p c : Nat} (hc : c < 8) (h : post (f_clock, f_buffered, b_frames, (upd a_counts 5 (a_counts 5 + 1)), a_buffer, a_isOpen, a_from, a_to, a_gap, a_tolerance, a_due, b_waits, b_waiting, b_sentCells, (upd b_kept c 0), b_keptOf, (upd b_keptMixed c 0), (upd b_keptTurned c 0), b_numbers, b_circuits, b_lengths, b_spoiled, b_bytes, a_lastSent, b_headAhead, b_contentAhead, a_isWary, a_queueCount, b_queueFrame, b_queueLast, b_queueTurned, a_inCount, b_boxHead, b_boxBytes)) : wY_comeToStation_269 post (nI s) (nI p) (nI c) 0 f_clock f_buffered b_frames a_counts a_buffer a_isOpen a_from a_to a_gap a_tolerance a_due b_waits b_waiting b_sentCells b_kept b_keptOf b_keptMixed b_keptTurned b_numbers b_circuits b_lengths b_spoiled b_bytes a_lastSent b_headAhead b_contentAhead a_isWary a_queueCount b_queueFrame b_queueLast b_queueTurned a_inCount b_boxHead b_boxBytes := by
  unfold wY_comeToStation_269
  exact yw_forget hc (br_t rfl (nm_e h))
theorem yw_cs269_1 {post : SY → Prop} {s p b c l : Nat} (hs : s < 4) (hp : p < 64) (hc : c < 8) (hb : b ≤ 4) (hB : a_inCount s = nI b) (hC : b_circuits p = nI c) (hL : b_lengths p = nI l)
    (hm : b = 4 → post (f_clock, f_buffered, b_frames, (upd a_counts 6 (a_counts 6 + 1)), a_buffer, a_isOpen, a_from, a_to, a_gap, a_tolerance, a_due, b_waits, b_waiting, b_sentCells, (upd b_kept c 0), b_keptOf, (upd b_keptMixed c 0), (upd b_keptTurned c 0), b_numbers, b_circuits, b_lengths, b_spoiled, b_bytes, a_lastSent, b_headAhead, b_contentAhead, a_isWary, a_queueCount, b_queueFrame, b_queueLast, b_queueTurned, a_inCount, b_boxHead, b_boxBytes))
    (hg : b < 4 → post (f_clock, f_buffered, b_frames, (upd a_counts 4 (a_counts 4 + 1)), a_buffer, a_isOpen, a_from, a_to, a_gap, a_tolerance, a_due, b_waits, b_waiting, b_sentCells, (upd b_kept c 0), b_keptOf, (upd b_keptMixed c 0), (upd b_keptTurned c 0), b_numbers, b_circuits, b_lengths, b_spoiled, b_bytes, a_lastSent, b_headAhead, b_contentAhead, a_isWary, a_queueCount, b_queueFrame, b_queueLast, b_queueTurned, (upd a_inCount s (nI (b + 1))), (upd b_boxHead (4 * s + b) (nI (32 * c + l))), (ar_cp b_boxBytes (27 * (4 * s + b)) 27 (fun i => b_bytes (27 * p + i))))) : wY_comeToStation_269 post (nI s) (nI p) (nI c) 1 f_clock f_buffered b_frames a_counts a_buffer a_isOpen a_from a_to a_gap a_tolerance a_due b_waits b_waiting b_sentCells b_kept b_keptOf b_keptMixed b_keptTurned b_numbers b_circuits b_lengths b_spoiled b_bytes a_lastSent b_headAhead b_contentAhead a_isWary a_queueCount b_queueFrame b_queueLast b_queueTurned a_inCount b_boxHead b_boxBytes := by
  unfold wY_comeToStation_269
  exact yw_forget hc (br_f (by decide) (yw_keep hs hp hb hB hC hL hm hg))
/-- from the update of keptMixed on: mv, tv are what is written -/
theorem yw_cs148 {post : SY → Prop} {s p b c l kc : Nat} {lv qv mv tv : Int32} (hs : s < 4) (hp : p < 64) (hc : c < 8) (hb : b ≤ 4) (hB : a_inCount s = nI b) (hC : b_circuits p = nI c) (hL : b_lengths p = nI l) (hl : l ≤ 27)
    (hK : b_kept c = nI kc) (hkc : kc < 65536)
    (hmv : mv = 0 ∧ b_keptMixed c = 0 ∧ b_keptOf c = b_numbers p ∨ mv = 1 ∧ ¬ (b_keptMixed c = 0 ∧ b_keptOf c = b_numbers p))
    (htv : tv = 0 ∧ b_keptTurned c = 0 ∧ qv = 0 ∨ tv = 1 ∧ ¬ (b_keptTurned c = 0 ∧ qv = 0))
    (h0 : lv = 0 → post (f_clock, f_buffered, b_frames, a_counts, a_buffer, a_isOpen, a_from, a_to, a_gap, a_tolerance, a_due, b_waits, b_waiting, b_sentCells, (upd b_kept c (nI (kc + 1))), b_keptOf, (upd b_keptMixed c mv), (upd b_keptTurned c tv), b_numbers, b_circuits, b_lengths, b_spoiled, b_bytes, a_lastSent, b_headAhead, b_contentAhead, a_isWary, a_queueCount, b_queueFrame, b_queueLast, b_queueTurned, a_inCount, b_boxHead, b_boxBytes))
    (hn : ¬ lv = 0 → ¬ (mv = 0 ∧ tv = 0 ∧ kc + 1 = cd_n l) → post (f_clock, f_buffered, b_frames, (upd a_counts 5 (a_counts 5 + 1)), a_buffer, a_isOpen, a_from, a_to, a_gap, a_tolerance, a_due, b_waits, b_waiting, b_sentCells, (upd b_kept c 0), b_keptOf, (upd b_keptMixed c 0), (upd b_keptTurned c 0), b_numbers, b_circuits, b_lengths, b_spoiled, b_bytes, a_lastSent, b_headAhead, b_contentAhead, a_isWary, a_queueCount, b_queueFrame, b_queueLast, b_queueTurned, a_inCount, b_boxHead, b_boxBytes))
    (hm : ¬ lv = 0 → mv = 0 ∧ tv = 0 ∧ kc + 1 = cd_n l → b = 4 → post (f_clock, f_buffered, b_frames, (upd a_counts 6 (a_counts 6 + 1)), a_buffer, a_isOpen, a_from, a_to, a_gap, a_tolerance, a_due, b_waits, b_waiting, b_sentCells, (upd b_kept c 0), b_keptOf, (upd b_keptMixed c 0), (upd b_keptTurned c 0), b_numbers, b_circuits, b_lengths, b_spoiled, b_bytes, a_lastSent, b_headAhead, b_contentAhead, a_isWary, a_queueCount, b_queueFrame, b_queueLast, b_queueTurned, a_inCount, b_boxHead, b_boxBytes))
    (hg : ¬ lv = 0 → mv = 0 ∧ tv = 0 ∧ kc + 1 = cd_n l → b < 4 → post (f_clock, f_buffered, b_frames, (upd a_counts 4 (a_counts 4 + 1)), a_buffer, a_isOpen, a_from, a_to, a_gap, a_tolerance, a_due, b_waits, b_waiting, b_sentCells, (upd b_kept c 0), b_keptOf, (upd b_keptMixed c 0), (upd b_keptTurned c 0), b_numbers, b_circuits, b_lengths, b_spoiled, b_bytes, a_lastSent, b_headAhead, b_contentAhead, a_isWary, a_queueCount, b_queueFrame, b_queueLast, b_queueTurned, (upd a_inCount s (nI (b + 1))), (upd b_boxHead (4 * s + b) (nI (32 * c + l))), (ar_cp b_boxBytes (27 * (4 * s + b)) 27 (fun i => b_bytes (27 * p + i))))) : wY_comeToStation_148 post (nI s) (nI p) lv qv (nI c) f_clock f_buffered b_frames a_counts a_buffer a_isOpen a_from a_to a_gap a_tolerance a_due b_waits b_waiting b_sentCells b_kept b_keptOf b_keptMixed b_keptTurned b_numbers b_circuits b_lengths b_spoiled b_bytes a_lastSent b_headAhead b_contentAhead a_isWary a_queueCount b_queueFrame b_queueLast b_queueTurned a_inCount b_boxHead b_boxBytes := by
  have hnl := cd_n_in hl
  have ec : (nI c).toNatClampNeg = c := nl_cl (by omega)
  have ep : (nI p).toNatClampNeg = p := nl_cl (by omega)
  have i8 : vp_in (nI c) 8 := vp_in_nI hc (by decide)
  have i64 : vp_in (nI p) 64 := vp_in_nI hp (by decide)
  have mb : vp_nar .boolean mv = mv := by rcases hmv with ⟨rfl, _⟩ | ⟨rfl, _⟩ <;> rfl
  have tb : vp_nar .boolean tv = tv := by rcases htv with ⟨rfl, _⟩ | ⟨rfl, _⟩ <;> rfl
  have K268 : ¬ lv = 0 → ¬ (mv = 0 ∧ tv = 0 ∧ kc + 1 = cd_n l) → wY_comeToStation_268 post (nI s) (nI p) (nI c) f_clock f_buffered b_frames a_counts a_buffer a_isOpen a_from a_to a_gap a_tolerance a_due b_waits b_waiting b_sentCells (upd b_kept c (nI (kc + 1))) b_keptOf (upd b_keptMixed c mv) (upd b_keptTurned c tv) b_numbers b_circuits b_lengths b_spoiled b_bytes a_lastSent b_headAhead b_contentAhead a_isWary a_queueCount b_queueFrame b_queueLast b_queueTurned a_inCount b_boxHead b_boxBytes := by
    intro z1 z2
    unfold wY_comeToStation_268
    refine yw_cs269_0 hc ?_
    rw [ar_uu, ar_uu, ar_uu]
    exact hn z1 z2
  have K212 : wY_comeToStation_212 post (nI s) (nI p) lv (nI c) tv (nI c) f_clock f_buffered b_frames a_counts a_buffer a_isOpen a_from a_to a_gap a_tolerance a_due b_waits b_waiting b_sentCells b_kept b_keptOf (upd b_keptMixed c mv) b_keptTurned b_numbers b_circuits b_lengths b_spoiled b_bytes a_lastSent b_headAhead b_contentAhead a_isWary a_queueCount b_queueFrame b_queueLast b_queueTurned a_inCount b_boxHead b_boxBytes := by
    unfold wY_comeToStation_212
    rw [ec, tb, hK, nI_1]
    refine ⟨i8, nm_e ⟨i8, i8, nm_e ?_⟩⟩
    rw [pk_us, pk_us, pk_us]
    refine br_c h0 (fun z => ⟨i8, br_c (fun z1 => ⟨i8, br_c (fun z2 => ⟨i8, yw_cells hp hL hl (pk_eq (kc + 1) (cd_n l) (fun z3 => ?_) (fun z3 => ?_))⟩) (fun z2 => ?_)⟩) (fun z1 => ?_)⟩)
    · refine yw_cs269_1 hs hp hc hb hB hC hL (fun z4 => ?_) (fun z4 => ?_)
      · rw [ar_uu, ar_uu, ar_uu]
        exact hm z ⟨z1, z2, z3⟩ z4
      · rw [ar_uu, ar_uu, ar_uu]
        exact hg z ⟨z1, z2, z3⟩ z4
    · exact K268 z (fun g => z3 g.2.2)
    · exact K268 z (fun g => z2 g.2.1)
    · exact K268 z (fun g => z1 g.1)
  have K185 : wY_comeToStation_185 post (nI s) (nI p) lv qv (nI c) mv (nI c) f_clock f_buffered b_frames a_counts a_buffer a_isOpen a_from a_to a_gap a_tolerance a_due b_waits b_waiting b_sentCells b_kept b_keptOf b_keptMixed b_keptTurned b_numbers b_circuits b_lengths b_spoiled b_bytes a_lastSent b_headAhead b_contentAhead a_isWary a_queueCount b_queueFrame b_queueLast b_queueTurned a_inCount b_boxHead b_boxBytes := by
    unfold wY_comeToStation_185
    rw [ec, mb]
    refine ⟨i8, nm_e ⟨i8, ?_⟩⟩
    rcases htv with ⟨e1, e2, e3⟩ | ⟨e1, e2⟩
    · subst e1
      exact br_t e2 (br_t e3 K212)
    · subst e1
      refine br_c (fun g => br_f (fun g2 => e2 ⟨g, g2⟩) ?_) (fun g => ?_)
      · unfold wY_comeToStation_207
        exact K212
      · unfold wY_comeToStation_207
        exact K212
  unfold wY_comeToStation_148
  rw [ec, ep]
  refine ⟨i8, ?_⟩
  rcases hmv with ⟨e1, e2, e3⟩ | ⟨e1, e2⟩
  · subst e1
    exact br_t e2 ⟨i8, i64, br_t e3 K185⟩
  · subst e1
    refine br_c (fun g => ⟨i8, i64, br_f (fun g2 => e2 ⟨g, g2⟩) ?_⟩) (fun g => ?_)
    · unfold wY_comeToStation_180
      exact K185
    · unfold wY_comeToStation_180
      exact K185
theorem yw_cs47 {post : SY → Prop} {s q p c kc : Nat} {lv qv : Int32} {ko : Nat → Int32} (hs : s < 4) (hp : p < 64) (hc : c < 8) (hq : q < 6) (hQ : a_queueCount s = nI q) (hC : b_circuits p = nI c)
    (hK : b_kept c = nI kc) (hkc : kc < 65536) (hko : ko = if kc = 0 then upd b_keptOf c (b_numbers p) else b_keptOf)
    (hb1 : ∀ j, j < q → vp_nar .boolean (b_queueLast (6 * s + j + 1)) = b_queueLast (6 * s + j + 1)) (hb2 : ∀ j, j < q → vp_nar .boolean (b_queueTurned (6 * s + j + 1)) = b_queueTurned (6 * s + j + 1))
    (h : wY_comeToStation_148 post (nI s) (nI p) lv qv (nI c) f_clock f_buffered b_frames a_counts a_buffer a_isOpen a_from a_to a_gap a_tolerance a_due b_waits b_waiting b_sentCells b_kept ko b_keptMixed b_keptTurned b_numbers b_circuits b_lengths b_spoiled b_bytes a_lastSent b_headAhead b_contentAhead a_isWary a_queueCount (ar_cp b_queueFrame (6 * s) q (fun j => b_queueFrame (6 * s + j + 1))) (ar_cp b_queueLast (6 * s) q (fun j => b_queueLast (6 * s + j + 1))) (ar_cp b_queueTurned (6 * s) q (fun j => b_queueTurned (6 * s + j + 1))) a_inCount b_boxHead b_boxBytes) :
    ∀ (d i : Nat) (qf ql qt : Nat → Int32), i + d = q → qf = ar_cp b_queueFrame (6 * s) i (fun j => b_queueFrame (6 * s + j + 1)) → ql = ar_cp b_queueLast (6 * s) i (fun j => b_queueLast (6 * s + j + 1)) → qt = ar_cp b_queueTurned (6 * s) i (fun j => b_queueTurned (6 * s + j + 1)) →
      wY_comeToStation_47 post (nI s) (nI p) lv qv f_clock f_buffered b_frames (d + 1) (nI (6 * s + i)) a_counts a_buffer a_isOpen a_from a_to a_gap a_tolerance a_due b_waits b_waiting b_sentCells b_kept b_keptOf b_keptMixed b_keptTurned b_numbers b_circuits b_lengths b_spoiled b_bytes a_lastSent b_headAhead b_contentAhead a_isWary a_queueCount qf ql qt a_inCount b_boxHead b_boxBytes := by
  have es : (nI s).toNatClampNeg = s := nl_cl (by omega)
  have ep : (nI p).toNatClampNeg = p := nl_cl (by omega)
  have ec : (nI c).toNatClampNeg = c := nl_cl (by omega)
  have i4 : vp_in (nI s) 4 := vp_in_nI hs (by decide)
  have i8 : vp_in (nI c) 8 := vp_in_nI hc (by decide)
  have i64 : vp_in (nI p) 64 := vp_in_nI hp (by decide)
  have e0 : 6 * nI s + a_queueCount (nI s).toNatClampNeg = nI (6 * s + q) := by rw [es, hQ, nl_m6, nI_add]
  intro d
  induction d with
  | zero =>
    intro i qf ql qt hi h1 h2 h3
    obtain rfl : i = q := by omega
    subst h1 h2 h3
    refine ⟨i4, br_t (by rw [e0]; exact nI_le (Nat.le_refl _) (by omega)) ⟨i64, nm_r (e' := nI c) (by rw [ep, hC]) ⟨i8, ?_⟩⟩⟩
    rw [ec, ep, hK]
    refine pk_eq kc 0 (fun z => ⟨i64, i8, nm_e ?_⟩) (fun z => ?_)
    · rw [if_pos z] at hko
      rw [← hko]
      exact h
    · rw [if_neg z] at hko
      rw [← hko]
      exact h
  | succ d ih =>
    intro i qf ql qt hi h1 h2 h3
    have e1 : nI (6 * s + i) + 1 = nI (6 * s + i + 1) := nI_1 _
    have i24 : vp_in (nI (6 * s + i)) 24 := vp_in_nI (by omega) (by decide)
    have i25 : vp_in (nI (6 * s + i) + 1) 24 := pk_in _ _ (by omega) e1
    refine ⟨i4, br_f (by rw [e0]; exact nI_ge (by omega) (by omega)) ⟨i25, i24, nm_e ⟨i25, i24, nm_e ⟨i25, i24, nm_e (nm_r e1 (ih (i + 1) _ _ _ (by omega) ?_ ?_ ?_))⟩⟩⟩⟩
    · rw [e1, nl_cl (by omega), nl_cl (by omega), h1]
      exact ar_S' rfl (ar_out _ _ (by omega))
    · rw [e1, nl_cl (by omega), nl_cl (by omega), h2]
      exact ar_S' rfl (by rw [ar_out _ _ (by omega)]; exact hb1 i (by omega))
    · rw [e1, nl_cl (by omega), nl_cl (by omega), h3]
      exact ar_S' rfl (by rw [ar_out _ _ (by omega)]; exact hb2 i (by omega))
theorem yw_station {post : SY → Prop} {s q p c kc : Nat} {lv qv : Int32} {ko : Nat → Int32} (hs : s < 4) (hp : p < 64) (hc : c < 8) (hq : q < 6) (hQ : a_queueCount s = nI (q + 1)) (hF : b_queueFrame (6 * s) = nI p) (hLv : b_queueLast (6 * s) = lv) (hTv : b_queueTurned (6 * s) = qv) (hC : b_circuits p = nI c)
    (hK : b_kept c = nI kc) (hkc : kc < 65536) (hko : ko = if kc = 0 then upd b_keptOf c (b_numbers p) else b_keptOf)
    (hb1 : ∀ j, j < q → vp_nar .boolean (b_queueLast (6 * s + j + 1)) = b_queueLast (6 * s + j + 1)) (hb2 : ∀ j, j < q → vp_nar .boolean (b_queueTurned (6 * s + j + 1)) = b_queueTurned (6 * s + j + 1))
    (h : wY_comeToStation_148 post (nI s) (nI p) lv qv (nI c) f_clock f_buffered b_frames a_counts a_buffer a_isOpen a_from a_to a_gap a_tolerance a_due b_waits b_waiting b_sentCells b_kept ko b_keptMixed b_keptTurned b_numbers b_circuits b_lengths b_spoiled b_bytes a_lastSent b_headAhead b_contentAhead a_isWary (upd a_queueCount s (nI q)) (ar_cp b_queueFrame (6 * s) q (fun j => b_queueFrame (6 * s + j + 1))) (ar_cp b_queueLast (6 * s) q (fun j => b_queueLast (6 * s + j + 1))) (ar_cp b_queueTurned (6 * s) q (fun j => b_queueTurned (6 * s + j + 1))) a_inCount b_boxHead b_boxBytes) : wpY_comeToStation post (f_clock, f_buffered, b_frames, a_counts, a_buffer, a_isOpen, a_from, a_to, a_gap, a_tolerance, a_due, b_waits, b_waiting, b_sentCells, b_kept, b_keptOf, b_keptMixed, b_keptTurned, b_numbers, b_circuits, b_lengths, b_spoiled, b_bytes, a_lastSent, b_headAhead, b_contentAhead, a_isWary, a_queueCount, b_queueFrame, b_queueLast, b_queueTurned, a_inCount, b_boxHead, b_boxBytes) (nI s) := by
  have es : (nI s).toNatClampNeg = s := nl_cl (by omega)
  have i4 : vp_in (nI s) 4 := vp_in_nI hs (by decide)
  have i24 : vp_in (nI (6 * s)) 24 := vp_in_nI (by omega) (by decide)
  unfold wpY_comeToStation
  dsimp only
  rw [es, nl_m6, nl_cl (show 6 * s < 2147483648 by omega), hF, hLv, hTv, hQ, nI_pred]
  refine ⟨i24, nm_e ⟨i24, nm_e ⟨i24, nm_e ⟨i4, i4, nm_e (nm_e ⟨q + 1, ?_⟩)⟩⟩⟩⟩
  exact yw_cs47 hs hp hc hq pk_us hC hK hkc hko hb1 hb2 h q 0 _ _ _ (by omega) (ar_0 _ _ _).symm (ar_0 _ _ _).symm (ar_0 _ _ _).symm
end
end
section
/-- what is known of Y's frame y, for good: circuit, X's number, length, place, bytes -/
abbrev rg_T : Type := Nat → Nat × Nat × Nat × Nat × (Nat → Int32)
def rg_C (G : rg_T) (y : Nat) : Nat := (G y).1
def rg_X (G : rg_T) (y : Nat) : Nat := (G y).2.1
def rg_L (G : rg_T) (y : Nat) : Nat := (G y).2.2.1
def rg_P (G : rg_T) (y : Nat) : Nat := (G y).2.2.2.1
def rg_B (G : rg_T) (y : Nat) : Nat → Int32 := (G y).2.2.2.2
def rl_u (f : Nat → Nat) (k v : Nat) : Nat → Nat := fun i => if i = k then v else f i
theorem rl_us (f : Nat → Nat) (k v : Nat) : rl_u f k v k = v := if_pos rfl
theorem rl_un (f : Nat → Nat) {k j : Nat} (v : Nat) (h : j ≠ k) : rl_u f k v j = f j := if_neg h
/-- frame y lies in its place -/
def rl_V (F : Nat) (G : rg_T) (b_numbers b_circuits b_lengths b_bytes : Nat → Int32) (y : Nat) : Prop :=
  1 ≤ y ∧ y ≤ F ∧ rg_P G y < 64 ∧ b_numbers (rg_P G y) = nI y ∧ b_circuits (rg_P G y) = nI (rg_C G y) ∧ b_lengths (rg_P G y) = nI (rg_L G y) ∧ ∀ i, i < rg_L G y → b_bytes (27 * rg_P G y + i) = rg_B G y i
def rl_S (f_buffered : Int32) (a_buffer a_lastSent a_to : Nat → Int32) : Prop :=
  (∃ nb, nb ≤ 27 ∧ f_buffered = nI nb) ∧ (∀ i, cd_B (a_buffer i)) ∧ (∀ s, s < 4 → ∃ l, l < 8 ∧ a_lastSent s = nI l) ∧ (∀ c, ∃ t, t < 4 ∧ a_to c = nI t)
def rl_A (a_ahead b_headAhead b_contentAhead : Nat → Int32) : Prop :=
  ∀ s, s < 4 → ∃ a, a ≤ 3 ∧ a_ahead s = nI a ∧ b_headAhead s = nI (if a = 3 then 0 else a) ∧ b_contentAhead s = (if a = 3 then 1 else 0)
def rl_N (a_inCount a_inCircuit a_inLength a_inBytes b_boxHead b_boxBytes : Nat → Int32) : Prop :=
  ∀ s, s < 4 → ∃ b, b ≤ 4 ∧ a_inCount s = nI b ∧ ∀ j, j < b → ∃ c l, c < 8 ∧ 1 ≤ l ∧ l ≤ 27 ∧ a_inCircuit (4 * s + j) = nI c ∧ a_inLength (4 * s + j) = nI l ∧ b_boxHead (4 * s + j) = nI (32 * c + l) ∧ ∀ i, i < l → a_inBytes (27 * (4 * s + j) + i) = b_boxBytes (27 * (4 * s + j) + i)
def rl_G (F : Nat) (m w : Nat → Nat) (G : rg_T) : Prop :=
  (∀ y, rg_C G y < 8 ∧ 1 ≤ rg_L G y ∧ rg_L G y ≤ 27 ∧ ∀ i, cd_B (rg_B G y i)) ∧
  (∀ y y', 1 ≤ y → y ≤ F → 1 ≤ y' → y' ≤ F → rg_C G y = rg_C G y' → rg_X G y = rg_X G y' → y = y') ∧
  (∀ y, 1 ≤ y → y ≤ F → rg_X G y < m (rg_C G y) + w (rg_C G y)) ∧ (∀ c, m c + w c ≤ F)
def rl_c1 (m n w : Nat) (isOpen frames waits nextCell sentCells number spoiledNumber : Int32) : Prop :=
  w ≤ 2 ∧ waits = nI w ∧ number = nI m ∧ (isOpen = 0 → w = 0) ∧ (¬ isOpen = 0 → frames = nI w ∧ nextCell = nI n ∧ sentCells = nI n ∧ (w = 0 → n = 0) ∧ n < 4 ∧ (spoiledNumber = -1 ∨ ∃ z, spoiledNumber = nI z ∧ 8 * z < 8 * m + n))
def rl_C (m n w : Nat → Nat) (a_isOpen a_frames b_waits a_nextCell b_sentCells a_number a_spoiledNumber : Nat → Int32) : Prop :=
  ∀ c, c < 8 → rl_c1 (m c) (n c) (w c) (a_isOpen c) (a_frames c) (b_waits c) (a_nextCell c) (b_sentCells c) (a_number c) (a_spoiledNumber c)
/-- a frame that waits: circuit c, the j-th -/
def rl_w1 (G : rg_T) (V : Nat → Prop) (m n c j : Nat) (b_waiting a_frameLength a_frameBytes b_spoiled a_spoiledNumber : Nat → Int32) (y : Nat) : Prop :=
  V y ∧ rg_C G y = c ∧ rg_X G y = m + j ∧ b_waiting (2 * c + j) = nI (rg_P G y) ∧ a_frameLength (2 * c + j) = nI (rg_L G y) ∧ (∀ i, i < rg_L G y → a_frameBytes (27 * (2 * c + j) + i) = rg_B G y i) ∧ (j = 0 → n < cd_n (rg_L G y)) ∧ (b_spoiled (rg_P G y) = 0 ↔ ¬ a_spoiledNumber c = nI (rg_X G y))
def rl_W (G : rg_T) (V : Nat → Prop) (m n w : Nat → Nat) (b_waiting a_frameLength a_frameBytes b_spoiled a_spoiledNumber : Nat → Int32) : Prop :=
  ∀ c, c < 8 → ∀ j, j < w c → ∃ y, rl_w1 G V (m c) (n c) c j b_waiting a_frameLength a_frameBytes b_spoiled a_spoiledNumber y
def rq_y (t : Nat × Nat × Nat) : Nat := t.1
def rq_k (t : Nat × Nat × Nat) : Nat := t.2.1
def rq_e (t : Nat × Nat × Nat) : Nat := t.2.2
/-- the stamp of a cell -/
def rq_t (G : rg_T) (t : Nat × Nat × Nat) : Nat := 8 * rg_X G (rq_y t) + rq_k t
/-- a cell of a queue -/
def rl_e1 (G : rg_T) (V : Nat → Prop) (a_isOpen a_to a_queue b_queueFrame b_queueLast b_queueTurned : Nat → Int32) (s j : Nat) (t : Nat × Nat × Nat) : Prop :=
  V (rq_y t) ∧ rq_k t < cd_n (rg_L G (rq_y t)) ∧ rq_e t ≤ 64 ∧ ¬ a_isOpen (rg_C G (rq_y t)) = 0 ∧ a_to (rg_C G (rq_y t)) = nI s ∧
  b_queueFrame (6 * s + j) = nI (rg_P G (rq_y t)) ∧ b_queueLast (6 * s + j) = (if rq_k t + 1 = cd_n (rg_L G (rq_y t)) then 1 else 0) ∧ b_queueTurned (6 * s + j) = (if rq_e t = 64 then 0 else 1) ∧
  a_queue (12 * (6 * s + j)) = nI (xm_hd (rg_C G (rq_y t)) (rq_k t) (rg_L G (rq_y t))) ∧ a_queue (12 * (6 * s + j) + 1) = nI (rg_X G (rq_y t) / 256) ∧ a_queue (12 * (6 * s + j) + 2) = nI (rg_X G (rq_y t) % 256) ∧
  ∀ i, i < 8 → a_queue (12 * (6 * s + j) + (4 + i)) = cd_ct (rg_L G (rq_y t)) (rg_B G (rq_y t)) (8 * rq_k t + i) ^^^ cs_er (rq_e t) i
def rl_Q (G : rg_T) (V : Nat → Prop) (st ls q : Nat → Nat) (Q : Nat → Nat → Nat × Nat × Nat) (a_isOpen a_to a_queueCount a_queue b_queueFrame b_queueLast b_queueTurned : Nat → Int32) : Prop :=
  (∀ s, s < 4 → a_queueCount s = nI (q s) ∧ q s ≤ 6) ∧
  (∀ s, s < 4 → ∀ j, j < q s → rl_e1 G V a_isOpen a_to a_queue b_queueFrame b_queueLast b_queueTurned s j (Q s j)) ∧
  (∀ s, s < 4 → ∀ i j, i < j → j < q s → rg_C G (rq_y (Q s i)) = rg_C G (rq_y (Q s j)) → rq_t G (Q s i) < rq_t G (Q s j)) ∧
  (∀ s, s < 4 → ∀ j, j < q s → rq_t G (Q s j) < st (rg_C G (rq_y (Q s j))) ∧ ls (rg_C G (rq_y (Q s j))) ≤ rq_t G (Q s j))
/-- the cells that are kept are of frame y, the last one is k -/
def rl_k2 (F : Nat) (G : rg_T) (ls c kc : Nat) (isp knum : Int32) (a_kept : Nat → Int32) (ko tu : Int32) (y k : Nat) : Prop :=
  1 ≤ y ∧ y ≤ F ∧ rg_C G y = c ∧ ko = nI y ∧ knum = nI (rg_X G y) ∧ ls = 8 * rg_X G y + k + 1 ∧ k < cd_n (rg_L G y) ∧ kc ≤ k + 1 ∧ (isp = 0 ↔ kc = k + 1) ∧
  (isp = 0 → ∃ e : Nat → Nat, (∀ j, j < kc → e j ≤ 64 ∧ ∀ i, i < 8 → a_kept (32 * c + 8 * j + i) = cd_ct (rg_L G y) (rg_B G y) (8 * j + i) ^^^ cs_er (e j) i) ∧ (tu = 0 ↔ ∀ j, j < kc → e j = 64))
def rl_k1 (F : Nat) (G : rg_T) (st ls c : Nat) (kcx isp knum : Int32) (a_kept : Nat → Int32) (bk ko mx tu : Int32) : Prop :=
  ∃ kc, bk = nI kc ∧ kcx = nI (min kc 4) ∧ kc ≤ ls ∧ ls ≤ st ∧ (kc = 0 → isp = 0 ∧ mx = 0 ∧ tu = 0) ∧ (0 < kc → ¬ mx = 0 → ¬ isp = 0) ∧ (0 < kc → mx = 0 → ∃ y k, rl_k2 F G ls c kc isp knum a_kept ko tu y k)
def rl_K (F : Nat) (G : rg_T) (st ls : Nat → Nat) (a_isOpen a_keptCount a_isSpoiled a_keptNumber a_kept b_kept b_keptOf b_keptMixed b_keptTurned : Nat → Int32) : Prop :=
  ∀ c, c < 8 → ¬ a_isOpen c = 0 → rl_k1 F G (st c) (ls c) c (a_keptCount c) (a_isSpoiled c) (a_keptNumber c) a_kept (b_kept c) (b_keptOf c) (b_keptMixed c) (b_keptTurned c)
def rl_st (m n : Nat → Nat) (c : Nat) : Nat := 8 * m c + n c
def rl_I (K F : Nat) (m n w ls q : Nat → Nat) (G : rg_T) (Q : Nat → Nat → Nat × Nat × Nat) (f_buffered : Int32) (f_clock : Int32) (f_check : Int32) (a_isOpen : Nat → Int32) (a_from : Nat → Int32) (a_to : Nat → Int32) (a_gap : Nat → Int32) (a_tolerance : Nat → Int32) (a_due : Nat → Int32) (a_frames : Nat → Int32) (a_frameLength : Nat → Int32) (a_frameBytes : Nat → Int32) (a_nextCell : Nat → Int32) (a_number : Nat → Int32) (a_spoiledNumber : Nat → Int32) (a_buffer : Nat → Int32) (a_cell : Nat → Int32) (a_lastSent : Nat → Int32) (a_ahead : Nat → Int32) (a_which : Nat → Int32) (a_isWary : Nat → Int32) (a_queueCount : Nat → Int32) (a_queue : Nat → Int32) (a_inCount : Nat → Int32) (a_inCircuit : Nat → Int32) (a_inLength : Nat → Int32) (a_inBytes : Nat → Int32) (a_keptCount : Nat → Int32) (a_isSpoiled : Nat → Int32) (a_keptNumber : Nat → Int32) (a_kept : Nat → Int32) (a_counts : Nat → Int32) (b_frames : Int32) (b_waits : Nat → Int32) (b_waiting : Nat → Int32) (b_sentCells : Nat → Int32) (b_kept : Nat → Int32) (b_keptOf : Nat → Int32) (b_keptMixed : Nat → Int32) (b_keptTurned : Nat → Int32) (b_numbers : Nat → Int32) (b_circuits : Nat → Int32) (b_lengths : Nat → Int32) (b_spoiled : Nat → Int32) (b_bytes : Nat → Int32) (b_headAhead : Nat → Int32) (b_contentAhead : Nat → Int32) (b_queueFrame : Nat → Int32) (b_queueLast : Nat → Int32) (b_queueTurned : Nat → Int32) (b_boxHead : Nat → Int32) (b_boxBytes : Nat → Int32) : Prop :=
  (F ≤ K ∧ b_frames = nI F) ∧ rl_S f_buffered a_buffer a_lastSent a_to ∧ rl_A a_ahead b_headAhead b_contentAhead ∧ rl_N a_inCount a_inCircuit a_inLength a_inBytes b_boxHead b_boxBytes ∧
  rl_G F m w G ∧ rl_C m n w a_isOpen a_frames b_waits a_nextCell b_sentCells a_number a_spoiledNumber ∧
  rl_W G (rl_V F G b_numbers b_circuits b_lengths b_bytes) m n w b_waiting a_frameLength a_frameBytes b_spoiled a_spoiledNumber ∧
  rl_Q G (rl_V F G b_numbers b_circuits b_lengths b_bytes) (rl_st m n) ls q Q a_isOpen a_to a_queueCount a_queue b_queueFrame b_queueLast b_queueTurned ∧
  rl_K F G (rl_st m n) ls a_isOpen a_keptCount a_isSpoiled a_keptNumber a_kept b_kept b_keptOf b_keptMixed b_keptTurned
def rl_E (K : Nat) (f_buffered : Int32) (f_clock : Int32) (f_check : Int32) (a_isOpen : Nat → Int32) (a_from : Nat → Int32) (a_to : Nat → Int32) (a_gap : Nat → Int32) (a_tolerance : Nat → Int32) (a_due : Nat → Int32) (a_frames : Nat → Int32) (a_frameLength : Nat → Int32) (a_frameBytes : Nat → Int32) (a_nextCell : Nat → Int32) (a_number : Nat → Int32) (a_spoiledNumber : Nat → Int32) (a_buffer : Nat → Int32) (a_cell : Nat → Int32) (a_lastSent : Nat → Int32) (a_ahead : Nat → Int32) (a_which : Nat → Int32) (a_isWary : Nat → Int32) (a_queueCount : Nat → Int32) (a_queue : Nat → Int32) (a_inCount : Nat → Int32) (a_inCircuit : Nat → Int32) (a_inLength : Nat → Int32) (a_inBytes : Nat → Int32) (a_keptCount : Nat → Int32) (a_isSpoiled : Nat → Int32) (a_keptNumber : Nat → Int32) (a_kept : Nat → Int32) (a_counts : Nat → Int32) (b_frames : Int32) (b_waits : Nat → Int32) (b_waiting : Nat → Int32) (b_sentCells : Nat → Int32) (b_kept : Nat → Int32) (b_keptOf : Nat → Int32) (b_keptMixed : Nat → Int32) (b_keptTurned : Nat → Int32) (b_numbers : Nat → Int32) (b_circuits : Nat → Int32) (b_lengths : Nat → Int32) (b_spoiled : Nat → Int32) (b_bytes : Nat → Int32) (b_headAhead : Nat → Int32) (b_contentAhead : Nat → Int32) (b_queueFrame : Nat → Int32) (b_queueLast : Nat → Int32) (b_queueTurned : Nat → Int32) (b_boxHead : Nat → Int32) (b_boxBytes : Nat → Int32) : Prop := ∃ F m n w ls q G Q, rl_I K F m n w ls q G Q f_buffered f_clock f_check a_isOpen a_from a_to a_gap a_tolerance a_due a_frames a_frameLength a_frameBytes a_nextCell a_number a_spoiledNumber a_buffer a_cell a_lastSent a_ahead a_which a_isWary a_queueCount a_queue a_inCount a_inCircuit a_inLength a_inBytes a_keptCount a_isSpoiled a_keptNumber a_kept a_counts b_frames b_waits b_waiting b_sentCells b_kept b_keptOf b_keptMixed b_keptTurned b_numbers b_circuits b_lengths b_spoiled b_bytes b_headAhead b_contentAhead b_queueFrame b_queueLast b_queueTurned b_boxHead b_boxBytes
/-- the relation at the head of a turn whose first cell is k -/
def i_Rel (k : Nat) (u : SX) (v : SY) : Prop := ∃ (f_buffered : Int32) (f_clock : Int32) (f_check : Int32) (a_isOpen : Nat → Int32) (a_from : Nat → Int32) (a_to : Nat → Int32) (a_gap : Nat → Int32) (a_tolerance : Nat → Int32) (a_due : Nat → Int32) (a_frames : Nat → Int32) (a_frameLength : Nat → Int32) (a_frameBytes : Nat → Int32) (a_nextCell : Nat → Int32) (a_number : Nat → Int32) (a_spoiledNumber : Nat → Int32) (a_buffer : Nat → Int32) (a_cell : Nat → Int32) (a_lastSent : Nat → Int32) (a_ahead : Nat → Int32) (a_which : Nat → Int32) (a_isWary : Nat → Int32) (a_queueCount : Nat → Int32) (a_queue : Nat → Int32) (a_inCount : Nat → Int32) (a_inCircuit : Nat → Int32) (a_inLength : Nat → Int32) (a_inBytes : Nat → Int32) (a_keptCount : Nat → Int32) (a_isSpoiled : Nat → Int32) (a_keptNumber : Nat → Int32) (a_kept : Nat → Int32) (a_counts : Nat → Int32) (b_frames : Int32) (b_waits : Nat → Int32) (b_waiting : Nat → Int32) (b_sentCells : Nat → Int32) (b_kept : Nat → Int32) (b_keptOf : Nat → Int32) (b_keptMixed : Nat → Int32) (b_keptTurned : Nat → Int32) (b_numbers : Nat → Int32) (b_circuits : Nat → Int32) (b_lengths : Nat → Int32) (b_spoiled : Nat → Int32) (b_bytes : Nat → Int32) (b_headAhead : Nat → Int32) (b_contentAhead : Nat → Int32) (b_queueFrame : Nat → Int32) (b_queueLast : Nat → Int32) (b_queueTurned : Nat → Int32) (b_boxHead : Nat → Int32) (b_boxBytes : Nat → Int32), u = (f_buffered, f_clock, f_check, a_isOpen, a_from, a_to, a_gap, a_tolerance, a_due, a_frames, a_frameLength, a_frameBytes, a_nextCell, a_number, a_spoiledNumber, a_buffer, a_cell, a_lastSent, a_ahead, a_which, a_isWary, a_queueCount, a_queue, a_inCount, a_inCircuit, a_inLength, a_inBytes, a_keptCount, a_isSpoiled, a_keptNumber, a_kept, a_counts) ∧ v = (f_clock, f_buffered, b_frames, a_counts, a_buffer, a_isOpen, a_from, a_to, a_gap, a_tolerance, a_due, b_waits, b_waiting, b_sentCells, b_kept, b_keptOf, b_keptMixed, b_keptTurned, b_numbers, b_circuits, b_lengths, b_spoiled, b_bytes, a_lastSent, b_headAhead, b_contentAhead, a_isWary, a_queueCount, b_queueFrame, b_queueLast, b_queueTurned, a_inCount, b_boxHead, b_boxBytes) ∧ rl_E k f_buffered f_clock f_check a_isOpen a_from a_to a_gap a_tolerance a_due a_frames a_frameLength a_frameBytes a_nextCell a_number a_spoiledNumber a_buffer a_cell a_lastSent a_ahead a_which a_isWary a_queueCount a_queue a_inCount a_inCircuit a_inLength a_inBytes a_keptCount a_isSpoiled a_keptNumber a_kept a_counts b_frames b_waits b_waiting b_sentCells b_kept b_keptOf b_keptMixed b_keptTurned b_numbers b_circuits b_lengths b_spoiled b_bytes b_headAhead b_contentAhead b_queueFrame b_queueLast b_queueTurned b_boxHead b_boxBytes
section
variable {f_buffered f_clock f_check b_frames : Int32} {a_isOpen a_from a_to a_gap a_tolerance a_due a_frames a_frameLength a_frameBytes a_nextCell a_number a_spoiledNumber a_buffer a_cell a_lastSent a_ahead a_which a_isWary a_queueCount a_queue a_inCount a_inCircuit a_inLength a_inBytes a_keptCount a_isSpoiled a_keptNumber a_kept a_counts b_waits b_waiting b_sentCells b_kept b_keptOf b_keptMixed b_keptTurned b_numbers b_circuits b_lengths b_spoiled b_bytes b_headAhead b_contentAhead b_queueFrame b_queueLast b_queueTurned b_boxHead b_boxBytes : Nat → Int32}
theorem rl_in {k : Nat} (h : rl_E k f_buffered f_clock f_check a_isOpen a_from a_to a_gap a_tolerance a_due a_frames a_frameLength a_frameBytes a_nextCell a_number a_spoiledNumber a_buffer a_cell a_lastSent a_ahead a_which a_isWary a_queueCount a_queue a_inCount a_inCircuit a_inLength a_inBytes a_keptCount a_isSpoiled a_keptNumber a_kept a_counts b_frames b_waits b_waiting b_sentCells b_kept b_keptOf b_keptMixed b_keptTurned b_numbers b_circuits b_lengths b_spoiled b_bytes b_headAhead b_contentAhead b_queueFrame b_queueLast b_queueTurned b_boxHead b_boxBytes) : i_Rel k (f_buffered, f_clock, f_check, a_isOpen, a_from, a_to, a_gap, a_tolerance, a_due, a_frames, a_frameLength, a_frameBytes, a_nextCell, a_number, a_spoiledNumber, a_buffer, a_cell, a_lastSent, a_ahead, a_which, a_isWary, a_queueCount, a_queue, a_inCount, a_inCircuit, a_inLength, a_inBytes, a_keptCount, a_isSpoiled, a_keptNumber, a_kept, a_counts) (f_clock, f_buffered, b_frames, a_counts, a_buffer, a_isOpen, a_from, a_to, a_gap, a_tolerance, a_due, b_waits, b_waiting, b_sentCells, b_kept, b_keptOf, b_keptMixed, b_keptTurned, b_numbers, b_circuits, b_lengths, b_spoiled, b_bytes, a_lastSent, b_headAhead, b_contentAhead, a_isWary, a_queueCount, b_queueFrame, b_queueLast, b_queueTurned, a_inCount, b_boxHead, b_boxBytes) := ⟨f_buffered, f_clock, f_check, a_isOpen, a_from, a_to, a_gap, a_tolerance, a_due, a_frames, a_frameLength, a_frameBytes, a_nextCell, a_number, a_spoiledNumber, a_buffer, a_cell, a_lastSent, a_ahead, a_which, a_isWary, a_queueCount, a_queue, a_inCount, a_inCircuit, a_inLength, a_inBytes, a_keptCount, a_isSpoiled, a_keptNumber, a_kept, a_counts, b_frames, b_waits, b_waiting, b_sentCells, b_kept, b_keptOf, b_keptMixed, b_keptTurned, b_numbers, b_circuits, b_lengths, b_spoiled, b_bytes, b_headAhead, b_contentAhead, b_queueFrame, b_queueLast, b_queueTurned, b_boxHead, b_boxBytes, rfl, rfl, h⟩
end
theorem rl_el {k : Nat} {P : SX → SY → Prop} (h : ∀ (f_buffered : Int32) (f_clock : Int32) (f_check : Int32) (a_isOpen : Nat → Int32) (a_from : Nat → Int32) (a_to : Nat → Int32) (a_gap : Nat → Int32) (a_tolerance : Nat → Int32) (a_due : Nat → Int32) (a_frames : Nat → Int32) (a_frameLength : Nat → Int32) (a_frameBytes : Nat → Int32) (a_nextCell : Nat → Int32) (a_number : Nat → Int32) (a_spoiledNumber : Nat → Int32) (a_buffer : Nat → Int32) (a_cell : Nat → Int32) (a_lastSent : Nat → Int32) (a_ahead : Nat → Int32) (a_which : Nat → Int32) (a_isWary : Nat → Int32) (a_queueCount : Nat → Int32) (a_queue : Nat → Int32) (a_inCount : Nat → Int32) (a_inCircuit : Nat → Int32) (a_inLength : Nat → Int32) (a_inBytes : Nat → Int32) (a_keptCount : Nat → Int32) (a_isSpoiled : Nat → Int32) (a_keptNumber : Nat → Int32) (a_kept : Nat → Int32) (a_counts : Nat → Int32) (b_frames : Int32) (b_waits : Nat → Int32) (b_waiting : Nat → Int32) (b_sentCells : Nat → Int32) (b_kept : Nat → Int32) (b_keptOf : Nat → Int32) (b_keptMixed : Nat → Int32) (b_keptTurned : Nat → Int32) (b_numbers : Nat → Int32) (b_circuits : Nat → Int32) (b_lengths : Nat → Int32) (b_spoiled : Nat → Int32) (b_bytes : Nat → Int32) (b_headAhead : Nat → Int32) (b_contentAhead : Nat → Int32) (b_queueFrame : Nat → Int32) (b_queueLast : Nat → Int32) (b_queueTurned : Nat → Int32) (b_boxHead : Nat → Int32) (b_boxBytes : Nat → Int32), rl_E k f_buffered f_clock f_check a_isOpen a_from a_to a_gap a_tolerance a_due a_frames a_frameLength a_frameBytes a_nextCell a_number a_spoiledNumber a_buffer a_cell a_lastSent a_ahead a_which a_isWary a_queueCount a_queue a_inCount a_inCircuit a_inLength a_inBytes a_keptCount a_isSpoiled a_keptNumber a_kept a_counts b_frames b_waits b_waiting b_sentCells b_kept b_keptOf b_keptMixed b_keptTurned b_numbers b_circuits b_lengths b_spoiled b_bytes b_headAhead b_contentAhead b_queueFrame b_queueLast b_queueTurned b_boxHead b_boxBytes → P (f_buffered, f_clock, f_check, a_isOpen, a_from, a_to, a_gap, a_tolerance, a_due, a_frames, a_frameLength, a_frameBytes, a_nextCell, a_number, a_spoiledNumber, a_buffer, a_cell, a_lastSent, a_ahead, a_which, a_isWary, a_queueCount, a_queue, a_inCount, a_inCircuit, a_inLength, a_inBytes, a_keptCount, a_isSpoiled, a_keptNumber, a_kept, a_counts) (f_clock, f_buffered, b_frames, a_counts, a_buffer, a_isOpen, a_from, a_to, a_gap, a_tolerance, a_due, b_waits, b_waiting, b_sentCells, b_kept, b_keptOf, b_keptMixed, b_keptTurned, b_numbers, b_circuits, b_lengths, b_spoiled, b_bytes, a_lastSent, b_headAhead, b_contentAhead, a_isWary, a_queueCount, b_queueFrame, b_queueLast, b_queueTurned, a_inCount, b_boxHead, b_boxBytes)) {u : SX} {v : SY} (I : i_Rel k u v) : P u v :=
  Exists.elim I (fun f_buffered h0 => Exists.elim h0 (fun f_clock h1 => Exists.elim h1 (fun f_check h2 => Exists.elim h2 (fun a_isOpen h3 => Exists.elim h3 (fun a_from h4 => Exists.elim h4 (fun a_to h5 => Exists.elim h5 (fun a_gap h6 => Exists.elim h6 (fun a_tolerance h7 => Exists.elim h7 (fun a_due h8 => Exists.elim h8 (fun a_frames h9 => Exists.elim h9 (fun a_frameLength h10 => Exists.elim h10 (fun a_frameBytes h11 => Exists.elim h11 (fun a_nextCell h12 => Exists.elim h12 (fun a_number h13 => Exists.elim h13 (fun a_spoiledNumber h14 => Exists.elim h14 (fun a_buffer h15 => Exists.elim h15 (fun a_cell h16 => Exists.elim h16 (fun a_lastSent h17 => Exists.elim h17 (fun a_ahead h18 => Exists.elim h18 (fun a_which h19 => Exists.elim h19 (fun a_isWary h20 => Exists.elim h20 (fun a_queueCount h21 => Exists.elim h21 (fun a_queue h22 => Exists.elim h22 (fun a_inCount h23 => Exists.elim h23 (fun a_inCircuit h24 => Exists.elim h24 (fun a_inLength h25 => Exists.elim h25 (fun a_inBytes h26 => Exists.elim h26 (fun a_keptCount h27 => Exists.elim h27 (fun a_isSpoiled h28 => Exists.elim h28 (fun a_keptNumber h29 => Exists.elim h29 (fun a_kept h30 => Exists.elim h30 (fun a_counts h31 => Exists.elim h31 (fun b_frames h32 => Exists.elim h32 (fun b_waits h33 => Exists.elim h33 (fun b_waiting h34 => Exists.elim h34 (fun b_sentCells h35 => Exists.elim h35 (fun b_kept h36 => Exists.elim h36 (fun b_keptOf h37 => Exists.elim h37 (fun b_keptMixed h38 => Exists.elim h38 (fun b_keptTurned h39 => Exists.elim h39 (fun b_numbers h40 => Exists.elim h40 (fun b_circuits h41 => Exists.elim h41 (fun b_lengths h42 => Exists.elim h42 (fun b_spoiled h43 => Exists.elim h43 (fun b_bytes h44 => Exists.elim h44 (fun b_headAhead h45 => Exists.elim h45 (fun b_contentAhead h46 => Exists.elim h46 (fun b_queueFrame h47 => Exists.elim h47 (fun b_queueLast h48 => Exists.elim h48 (fun b_queueTurned h49 => Exists.elim h49 (fun b_boxHead h50 => Exists.elim h50 (fun b_boxBytes h51 => h51.1.symm ▸ h51.2.1.symm ▸ h f_buffered f_clock f_check a_isOpen a_from a_to a_gap a_tolerance a_due a_frames a_frameLength a_frameBytes a_nextCell a_number a_spoiledNumber a_buffer a_cell a_lastSent a_ahead a_which a_isWary a_queueCount a_queue a_inCount a_inCircuit a_inLength a_inBytes a_keptCount a_isSpoiled a_keptNumber a_kept a_counts b_frames b_waits b_waiting b_sentCells b_kept b_keptOf b_keptMixed b_keptTurned b_numbers b_circuits b_lengths b_spoiled b_bytes b_headAhead b_contentAhead b_queueFrame b_queueLast b_queueTurned b_boxHead b_boxBytes h51.2.2))))))))))))))))))))))))))))))))))))))))))))))))))))
theorem rl_mono {k k' : Nat} {u : SX} {v : SY} (hk : k ≤ k') (h : i_Rel k u v) : i_Rel k' u v := by
  refine rl_el (P := fun u v => i_Rel k' u v) ?_ h
  intro f_buffered f_clock f_check a_isOpen a_from a_to a_gap a_tolerance a_due a_frames a_frameLength a_frameBytes a_nextCell a_number a_spoiledNumber a_buffer a_cell a_lastSent a_ahead a_which a_isWary a_queueCount a_queue a_inCount a_inCircuit a_inLength a_inBytes a_keptCount a_isSpoiled a_keptNumber a_kept a_counts b_frames b_waits b_waiting b_sentCells b_kept b_keptOf b_keptMixed b_keptTurned b_numbers b_circuits b_lengths b_spoiled b_bytes b_headAhead b_contentAhead b_queueFrame b_queueLast b_queueTurned b_boxHead b_boxBytes
  intro ⟨F, m, n, w, ls, q, G, Q, ⟨h1, h2⟩, h3⟩
  exact rl_in ⟨F, m, n, w, ls, q, G, Q, ⟨Nat.le_trans h1 hk, h2⟩, h3⟩
theorem i_up {k : Nat} {u : SX} {v : SY} (h : i_Rel k u v) : i_Rel (k + 5) u v := rl_mono (by omega) h
end
section
theorem ra_G {F : Nat} {m w : Nat → Nat} {G : rg_T} {c : Nat} (hG : rl_G F m w G) (hw : 0 < w c) : rl_G F (rl_u m c (m c + 1)) (rl_u w c (w c - 1)) G := by
  refine ⟨hG.1, hG.2.1, fun y h1 h2 => ?_, fun c' => ?_⟩
  · have := hG.2.2.1 y h1 h2
    by_cases e : rg_C G y = c
    · rw [e] at this
      rw [e, rl_us, rl_us]
      omega
    · rw [rl_un _ _ e, rl_un _ _ e]
      exact this
  · have := hG.2.2.2 c'
    by_cases e : c' = c
    · rw [e] at this
      rw [e, rl_us, rl_us]
      omega
    · rw [rl_un _ _ e, rl_un _ _ e]
      exact this
theorem ra_adv {F : Nat} {m n w : Nat → Nat} {G : rg_T} {V : Nat → Prop} {c y : Nat} {a_isOpen a_frames fr b_waits wt a_nextCell nc b_sentCells sc a_number nu a_spoiledNumber b_waiting wg a_frameLength fl a_frameBytes fb b_spoiled : Nat → Int32}
    (hV : ∀ y, V y → 1 ≤ y ∧ y ≤ F) (hG : rl_G F m w G) (hC : rl_C m n w a_isOpen a_frames b_waits a_nextCell b_sentCells a_number a_spoiledNumber)
    (hW : rl_W G V m n w b_waiting a_frameLength a_frameBytes b_spoiled a_spoiledNumber) (hc : c < 8) (ho : ¬ a_isOpen c = 0) (hw : 0 < w c)
    (hy : rl_w1 G V (m c) (n c) c 0 b_waiting a_frameLength a_frameBytes b_spoiled a_spoiledNumber y)
    (hx : xm_adv c (n c) (rg_L G y) a_nextCell nc a_number nu a_frames fr a_frameLength fl a_frameBytes fb) (hyv : ym_adv c (n c) (rg_L G y) b_sentCells sc b_waits wt b_waiting wg) :
    ∃ m' n' w' : Nat → Nat, rl_G F m' w' G ∧ rl_C m' n' w' a_isOpen fr wt nc sc nu a_spoiledNumber ∧ rl_W G V m' n' w' wg fl fb b_spoiled a_spoiledNumber ∧
      (∀ c', rl_st m n c' ≤ rl_st m' n' c') ∧ 8 * rg_X G y + n c < rl_st m' n' c ∧ (0 < n' c → rg_X G y = m' c) := by
  obtain ⟨g1, g2, g3, g4, g5, g6, g7, g8⟩ := hy
  have hn := cd_n_in (hG.1 y).2.2.1
  have hk := g7 rfl
  obtain ⟨c1, c2, c3, c4, c5⟩ := hC c hc
  obtain ⟨f1, f2, f3, f4, f5, f6⟩ := c5 ho
  by_cases z : n c + 1 = cd_n (rg_L G y)
  · obtain ⟨rfl, rfl, rfl, rfl, rfl⟩ := hx.1 z
    obtain ⟨rfl, rfl, rfl⟩ := hyv.1 z
    refine ⟨rl_u m c (m c + 1), rl_u n c 0, rl_u w c (w c - 1), ra_G hG hw, ?_, ?_, ?_, ?_, ?_⟩
    · intro c' hc'
      by_cases e : c' = c
      · subst e
        simp only [rl_us, pk_us]
        refine ⟨by omega, by rw [c2, nl_sr1 (by omega)], by rw [c3, nI_1], fun g => absurd g ho, fun _ => ⟨by rw [f1, nl_sr1 (by omega)], rfl, rfl, fun _ => rfl, by omega, ?_⟩⟩
        rcases f6 with f6 | ⟨zz, f6, f7⟩
        · exact Or.inl f6
        · exact Or.inr ⟨zz, f6, by omega⟩
      · simp only [rl_un _ _ e, pk_un e]
        exact hC c' hc'
    · intro c' hc' j hj
      by_cases e : c' = c
      · subst e
        rw [rl_us] at hj
        obtain rfl : j = 0 := by omega
        obtain ⟨y1, v1, v2, v3, v4, v5, v6, v7, v8⟩ := hW c' hc 1 (by omega)
        refine ⟨y1, v1, v2, by rw [rl_us]; omega, ?_, ?_, fun i hi => ?_, fun _ => ?_, v8⟩
        · show upd _ _ _ (2 * c') = _
          rw [pk_us]; exact v4
        · show upd _ _ _ (2 * c') = _
          rw [pk_us]; exact v5
        · have hL1 := (hG.1 y1).2.2.1
          rw [ar_in' _ _ (by omega) (by omega), ← v6 i hi]
          congr 1
          omega
        · rw [rl_us]
          have := cd_n_in (hG.1 y1).2.2.1
          omega
      · rw [rl_un _ _ e] at hj
        have := (hC c' hc').1
        obtain ⟨y1, v1, v2, v3, v4, v5, v6, v7, v8⟩ := hW c' hc' j hj
        refine ⟨y1, v1, v2, by rw [rl_un _ _ e]; exact v3, ?_, ?_, fun i hi => ?_, by rw [rl_un _ _ e]; exact v7, v8⟩
        · rw [pk_un (by omega)]; exact v4
        · rw [pk_un (by omega)]; exact v5
        · have hL1 := (hG.1 y1).2.2.1
          rw [ar_out _ _ (by omega), v6 i hi]
    · intro c'
      unfold rl_st
      by_cases e : c' = c
      · subst e; rw [rl_us, rl_us]; omega
      · rw [rl_un _ _ e, rl_un _ _ e]; omega
    · unfold rl_st
      rw [rl_us, rl_us, g3]
      omega
    · rw [rl_us]
      omega
  · obtain ⟨rfl, rfl, rfl, rfl, rfl⟩ := hx.2 z
    obtain ⟨rfl, rfl, rfl⟩ := hyv.2 z
    refine ⟨m, rl_u n c (n c + 1), w, hG, ?_, ?_, ?_, ?_, ?_⟩
    · intro c' hc'
      by_cases e : c' = c
      · subst e
        simp only [rl_us, pk_us]
        refine ⟨c1, c2, c3, c4, fun _ => ⟨f1, rfl, rfl, fun _ => by omega, by omega, ?_⟩⟩
        rcases f6 with f6 | ⟨zz, f6, f7⟩
        · exact Or.inl f6
        · exact Or.inr ⟨zz, f6, by omega⟩
      · simp only [rl_un _ _ e, pk_un e]
        exact hC c' hc'
    · intro c' hc' j hj
      obtain ⟨y1, v1, v2, v3, v4, v5, v6, v7, v8⟩ := hW c' hc' j hj
      refine ⟨y1, v1, v2, v3, v4, v5, v6, fun hj0 => ?_, v8⟩
      by_cases e : c' = c
      · subst e
        have e1 : y1 = y := hG.2.1 y1 y (hV y1 v1).1 (hV y1 v1).2 (hV y g1).1 (hV y g1).2 (by rw [v2, g2]) (by rw [v3, g3, hj0])
        rw [rl_us, e1]
        omega
      · rw [rl_un _ _ e]
        exact v7 hj0
    · intro c'
      unfold rl_st
      by_cases e : c' = c
      · subst e; rw [rl_us]; omega
      · rw [rl_un _ _ e]; omega
    · unfold rl_st
      rw [rl_us, g3]
      omega
    · intro _
      exact g3
theorem ra_Q {G : rg_T} {V : Nat → Prop} {st st' ls q : Nat → Nat} {Q : Nat → Nat → Nat × Nat × Nat} {a_isOpen a_to a_queueCount a_queue b_queueFrame b_queueLast b_queueTurned : Nat → Int32}
    (h : rl_Q G V st ls q Q a_isOpen a_to a_queueCount a_queue b_queueFrame b_queueLast b_queueTurned) (hs : ∀ c, st c ≤ st' c) : rl_Q G V st' ls q Q a_isOpen a_to a_queueCount a_queue b_queueFrame b_queueLast b_queueTurned :=
  ⟨h.1, h.2.1, h.2.2.1, fun s hs4 j hj => ⟨Nat.lt_of_lt_of_le (h.2.2.2 s hs4 j hj).1 (hs _), (h.2.2.2 s hs4 j hj).2⟩⟩
theorem ra_K {F : Nat} {G : rg_T} {st st' ls : Nat → Nat} {a_isOpen a_keptCount a_isSpoiled a_keptNumber a_kept b_kept b_keptOf b_keptMixed b_keptTurned : Nat → Int32}
    (h : rl_K F G st ls a_isOpen a_keptCount a_isSpoiled a_keptNumber a_kept b_kept b_keptOf b_keptMixed b_keptTurned) (hs : ∀ c, st c ≤ st' c) : rl_K F G st' ls a_isOpen a_keptCount a_isSpoiled a_keptNumber a_kept b_kept b_keptOf b_keptMixed b_keptTurned := by
  intro c hc ho
  obtain ⟨kc, k1, k2, k3, k4, k5⟩ := h c hc ho
  exact ⟨kc, k1, k2, k3, Nat.le_trans k4 (hs c), k5⟩
/-- a cell of frame y is dropped -/
theorem ra_drop {F : Nat} {m n w : Nat → Nat} {G : rg_T} {b_numbers b_circuits b_lengths b_bytes : Nat → Int32} {c y : Nat} {a_isOpen a_frames b_waits a_nextCell b_sentCells a_number a_spoiledNumber b_waiting a_frameLength a_frameBytes b_spoiled : Nat → Int32}
    (hF : F ≤ 2560) (hG : rl_G F m w G) (hC : rl_C m n w a_isOpen a_frames b_waits a_nextCell b_sentCells a_number a_spoiledNumber)
    (hW : rl_W G (rl_V F G b_numbers b_circuits b_lengths b_bytes) m n w b_waiting a_frameLength a_frameBytes b_spoiled a_spoiledNumber) (hc : c < 8) (ho : ¬ a_isOpen c = 0)
    (hy : rl_V F G b_numbers b_circuits b_lengths b_bytes y) (hyc : rg_C G y = c) (ht : 8 * rg_X G y < rl_st m n c) (hn : 0 < n c → rg_X G y = m c) :
    rl_C m n w a_isOpen a_frames b_waits a_nextCell b_sentCells a_number (upd a_spoiledNumber c (nI (rg_X G y))) ∧
    rl_W G (rl_V F G b_numbers b_circuits b_lengths b_bytes) m n w b_waiting a_frameLength a_frameBytes (upd b_spoiled (rg_P G y) 1) (upd a_spoiledNumber c (nI (rg_X G y))) := by
  constructor
  · intro c' hc'
    obtain ⟨c1, c2, c3, c4, c5⟩ := hC c' hc'
    refine ⟨c1, c2, c3, c4, fun h => ?_⟩
    obtain ⟨f1, f2, f3, f4, f5, f6⟩ := c5 h
    refine ⟨f1, f2, f3, f4, f5, ?_⟩
    by_cases e : c' = c
    · subst e
      rw [pk_us]
      exact Or.inr ⟨_, rfl, ht⟩
    · rw [pk_un e]
      exact f6
  · intro c' hc' j hj
    obtain ⟨y1, v1, v2, v3, v4, v5, v6, v7, v8⟩ := hW c' hc' j hj
    refine ⟨y1, v1, v2, v3, v4, v5, v6, v7, ?_⟩
    have hX1 := hG.2.2.1 y1 v1.1 v1.2.1
    have hS1 := hG.2.2.2 (rg_C G y1)
    have hX := hG.2.2.1 y hy.1 hy.2.1
    have hS := hG.2.2.2 (rg_C G y)
    by_cases e : rg_P G y1 = rg_P G y
    · have ey : y1 = y := by
        have a1 := v1.2.2.2.1
        have a2 := hy.2.2.2.1
        rw [e, a2, nI_eq (by have := hy.2.1; omega) (by have := v1.2.1; omega)] at a1
        exact a1.symm
      subst ey
      have ec : c' = c := by rw [← v2, hyc]
      subst ec
      rw [pk_us, pk_us]
      simp
    · rw [pk_un e]
      by_cases ec : c' = c
      · subst ec
        rw [pk_us, v8]
        have hne : rg_X G y1 ≠ rg_X G y := fun g => e (by rw [hG.2.1 y1 y v1.1 v1.2.1 hy.1 hy.2.1 (by rw [v2, hyc]) g])
        have R : ¬ nI (rg_X G y) = nI (rg_X G y1) := by
          rw [nI_eq (by omega) (by omega)]
          exact fun g => hne g.symm
        refine ⟨fun _ => R, fun _ g => ?_⟩
        obtain ⟨_, _, _, _, c5⟩ := hC c' hc'
        obtain ⟨f1, f2, f3, f4, f5, f6⟩ := c5 ho
        rcases f6 with f6 | ⟨zz, f6, f7⟩
        · rw [f6] at g
          have : ¬ nI (rg_X G y1) < 0 := nI_pos (by omega)
          rw [← g] at this
          exact this (by decide)
        · have hm := hG.2.2.2 c'
          rw [f6, nI_eq (by omega) (by omega)] at g
          have : 0 < n c' ∧ j = 0 := by omega
          have := hn this.1
          omega
      · rw [pk_un ec]
        exact v8
/-- a cell is put at the end of its queue -/
theorem ra_queue {G : rg_T} {V : Nat → Prop} {st ls q : Nat → Nat} {Q : Nat → Nat → Nat × Nat × Nat} {t y k e : Nat} {a_isOpen a_to a_queueCount a_queue b_queueFrame b_queueLast b_queueTurned ce : Nat → Int32} {tv : Int32}
    (h : rl_Q G V st ls q Q a_isOpen a_to a_queueCount a_queue b_queueFrame b_queueLast b_queueTurned) (ht : t < 4) (hq : q t < 6)
    (hV : V y) (hk : k < cd_n (rg_L G y)) (he : e ≤ 64) (htv : tv = if e = 64 then 0 else 1) (ho : ¬ a_isOpen (rg_C G y) = 0) (hto : a_to (rg_C G y) = nI t)
    (hce : xm_cell ce (rg_C G y) k (rg_L G y) (rg_X G y) e (rg_B G y))
    (hst : 8 * rg_X G y + k < st (rg_C G y)) (hls : ls (rg_C G y) ≤ 8 * rg_X G y + k)
    (hlt : ∀ j, j < q t → rg_C G (rq_y (Q t j)) = rg_C G y → rq_t G (Q t j) < 8 * rg_X G y + k) :
    rl_Q G V st ls (rl_u q t (q t + 1)) (fun s j => if s = t ∧ j = q t then (y, k, e) else Q s j) a_isOpen a_to (upd a_queueCount t (nI (q t + 1))) (ar_cp a_queue (12 * (6 * t + q t)) 12 ce)
      (upd b_queueFrame (6 * t + q t) (nI (rg_P G y))) (upd b_queueLast (6 * t + q t) (if k + 1 = cd_n (rg_L G y) then 1 else 0)) (upd b_queueTurned (6 * t + q t) tv) := by
  obtain ⟨h1, h2, h3, h4⟩ := h
  refine ⟨fun s hs => ?_, fun s hs j hj => ?_, fun s hs i j hij hj => ?_, fun s hs j hj => ?_⟩
  · by_cases es : s = t
    · subst es
      rw [pk_us, rl_us]
      exact ⟨rfl, by omega⟩
    · rw [pk_un es, rl_un _ _ es]
      exact h1 s hs
  · have hq6 := (h1 s hs).2
    by_cases es : s = t ∧ j = q t
    · dsimp only
      rw [if_pos es]
      obtain ⟨rfl, rfl⟩ := es
      obtain ⟨z0, z1, z2, z3⟩ := hce
      refine ⟨hV, hk, he, ho, hto, pk_us, pk_us, by rw [pk_us]; exact htv, ?_, ?_, ?_, fun i hi => ?_⟩
      · rw [ar_in' _ _ (by omega) (by omega), Nat.sub_self]; exact z0
      · rw [ar_in _ _ _ _ (by omega)]; exact z1
      · rw [ar_in _ _ _ _ (by omega)]; exact z2
      · rw [ar_in _ _ _ _ (by omega)]; exact z3 i hi
    · dsimp only
      rw [if_neg es]
      have hj' : j < q s := by
        by_cases e2 : s = t
        · rw [e2, rl_us] at hj
          have : j ≠ q t := fun g => es ⟨e2, g⟩
          rw [e2]
          omega
        · rwa [rl_un _ _ e2] at hj
      have hne : 6 * s + j ≠ 6 * t + q t := by omega
      obtain ⟨w1, w2, w3, w4, w5, w6, w7, w8, w9, w10, w11, w12⟩ := h2 s hs j hj'
      refine ⟨w1, w2, w3, w4, w5, by rw [pk_un hne]; exact w6, by rw [pk_un hne]; exact w7, by rw [pk_un hne]; exact w8, ?_, ?_, ?_, fun i hi => ?_⟩
      · rw [ar_out _ _ (by omega)]; exact w9
      · rw [ar_out _ _ (by omega)]; exact w10
      · rw [ar_out _ _ (by omega)]; exact w11
      · rw [ar_out _ _ (by omega)]; exact w12 i hi
  · dsimp only
    have hi : ¬ (s = t ∧ i = q t) := fun g => by
      rw [g.1, rl_us] at hj
      omega
    rw [if_neg hi]
    by_cases es : s = t ∧ j = q t
    · rw [if_pos es]
      obtain ⟨rfl, rfl⟩ := es
      exact fun g => hlt i hij g
    · rw [if_neg es]
      refine h3 s hs i j hij ?_
      by_cases e2 : s = t
      · rw [e2, rl_us] at hj
        have : j ≠ q t := fun g => es ⟨e2, g⟩
        rw [e2]
        omega
      · rwa [rl_un _ _ e2] at hj
  · dsimp only
    by_cases es : s = t ∧ j = q t
    · rw [if_pos es]
      exact ⟨hst, hls⟩
    · rw [if_neg es]
      refine h4 s hs j ?_
      by_cases e2 : s = t
      · rw [e2, rl_us] at hj
        have : j ≠ q t := fun g => es ⟨e2, g⟩
        rw [e2]
        omega
      · rwa [rl_un _ _ e2] at hj
end
section
theorem sn_S {f_buffered : Int32} {a_buffer a_lastSent a_to : Nat → Int32} {s c : Nat} (hc : c < 8) (h : rl_S f_buffered a_buffer a_lastSent a_to) : rl_S f_buffered a_buffer (upd a_lastSent s (nI c)) a_to := by
  refine ⟨h.1, h.2.1, fun s' hs' => ?_, h.2.2.2⟩
  by_cases e : s' = s
  · rw [e, pk_us]; exact ⟨c, hc, rfl⟩
  · rw [pk_un e]; exact h.2.2.1 s' hs'
theorem sn_A {a_ahead b_headAhead b_contentAhead : Nat → Int32} {s : Nat} (h : rl_A a_ahead b_headAhead b_contentAhead) : rl_A (upd a_ahead s 0) (upd b_headAhead s 0) (upd b_contentAhead s 0) := by
  intro s' hs'
  by_cases e : s' = s
  · rw [e, pk_us, pk_us, pk_us]; exact ⟨0, by omega, rfl, rfl, rfl⟩
  · rw [pk_un e, pk_un e, pk_un e]; exact h s' hs'
section
variable {f_buffered f_clock f_check b_frames : Int32} {a_isOpen a_from a_to a_gap a_tolerance a_due a_frames a_frameLength a_frameBytes a_nextCell a_number a_spoiledNumber a_buffer a_cell a_lastSent a_ahead a_which a_isWary a_queueCount a_queue a_inCount a_inCircuit a_inLength a_inBytes a_keptCount a_isSpoiled a_keptNumber a_kept a_counts b_waits b_waiting b_sentCells b_kept b_keptOf b_keptMixed b_keptTurned b_numbers b_circuits b_lengths b_spoiled b_bytes b_headAhead b_contentAhead b_queueFrame b_queueLast b_queueTurned b_boxHead b_boxBytes : Nat → Int32}
theorem sn_both {K : Nat} (hK : K ≤ 2560) (hE : rl_E K f_buffered f_clock f_check a_isOpen a_from a_to a_gap a_tolerance a_due a_frames a_frameLength a_frameBytes a_nextCell a_number a_spoiledNumber a_buffer a_cell a_lastSent a_ahead a_which a_isWary a_queueCount a_queue a_inCount a_inCircuit a_inLength a_inBytes a_keptCount a_isSpoiled a_keptNumber a_kept a_counts b_frames b_waits b_waiting b_sentCells b_kept b_keptOf b_keptMixed b_keptTurned b_numbers b_circuits b_lengths b_spoiled b_bytes b_headAhead b_contentAhead b_queueFrame b_queueLast b_queueTurned b_boxHead b_boxBytes) {s : Nat} (hs : s < 4) {post : SX → Prop}
    (H : ∀ u' v', i_Rel K u' v' → (∀ P : SY → Prop, P v' → wpY_sendFrom P (f_clock, f_buffered, b_frames, a_counts, a_buffer, a_isOpen, a_from, a_to, a_gap, a_tolerance, a_due, b_waits, b_waiting, b_sentCells, b_kept, b_keptOf, b_keptMixed, b_keptTurned, b_numbers, b_circuits, b_lengths, b_spoiled, b_bytes, a_lastSent, b_headAhead, b_contentAhead, a_isWary, a_queueCount, b_queueFrame, b_queueLast, b_queueTurned, a_inCount, b_boxHead, b_boxBytes) (nI s)) → post u') : wpX_sendFrom post (f_buffered, f_clock, f_check, a_isOpen, a_from, a_to, a_gap, a_tolerance, a_due, a_frames, a_frameLength, a_frameBytes, a_nextCell, a_number, a_spoiledNumber, a_buffer, a_cell, a_lastSent, a_ahead, a_which, a_isWary, a_queueCount, a_queue, a_inCount, a_inCircuit, a_inLength, a_inBytes, a_keptCount, a_isSpoiled, a_keptNumber, a_kept, a_counts) (nI s) := by
  obtain ⟨F, m, n, w, ls, q, G, Q, ⟨hFK, hFf⟩, hS, hA, hN, hG, hC, hW, hQ, hKk⟩ := hE
  obtain ⟨l, hl, hL⟩ := hS.2.2.1 s hs
  obtain ⟨r, hr, hX, hY⟩ := nc_both hs hl hL (fun c hc => (hC c hc).1) (fun c hc ho => ⟨((hC c hc).2.2.2.2 ho).1, (hC c hc).2.1⟩)
  rcases hr with rfl | ⟨c, hc, rfl, ho, hfrom, hwc⟩
  · exact xw_send0 hX (H _ _ (rl_in ⟨F, m, n, w, ls, q, G, Q, ⟨hFK, hFf⟩, hS, hA, hN, hG, hC, hW, hQ, hKk⟩) (fun P hP => yw_send0 hY hP))
  obtain ⟨y, hy⟩ := hW c hc 0 hwc
  have hy' := hy
  obtain ⟨g1, g2, g3, g4, g5, g6, g7, g8⟩ := hy
  obtain ⟨a, ha, hA1, hA2, hA3⟩ := hA s hs
  obtain ⟨t, ht, hT⟩ := hS.2.2.2 c
  obtain ⟨hq1, hq2⟩ := hQ.1 t ht
  obtain ⟨c1, c2, c3, c4, c5⟩ := hC c hc
  obtain ⟨f1, f2, f3, f4, f5, f6⟩ := c5 ho
  have hXm : rg_X G y = m c := g3
  have hmF := hG.2.2.2 c
  have hL27 := (hG.1 y).2.2.1
  have hk := g7 rfl
  have hP64 := g1.2.2.1
  have hLen : b_lengths (rg_P G y) = nI (rg_L G y) := g1.2.2.2.2.2.1
  have hV : ∀ y, rl_V F G b_numbers b_circuits b_lengths b_bytes y → 1 ≤ y ∧ y ≤ F := fun y h => ⟨h.1, h.2.1⟩
  have hlsc : ls c ≤ 8 * rg_X G y + n c := by
    obtain ⟨kc, _, _, _, k4, _⟩ := hKk c hc ho
    unfold rl_st at k4
    omega
  have hlt : ∀ j, j < q t → rg_C G (rq_y (Q t j)) = rg_C G y → rq_t G (Q t j) < 8 * rg_X G y + n c := fun j hj e => by
    have := (hQ.2.2.2 t ht j hj).1
    rw [e, g2] at this
    unfold rl_st at this
    omega
  have hlv : vp_nar .boolean (if n c + 1 = cd_n (rg_L G y) then (1 : Int32) else 0) = (if n c + 1 = cd_n (rg_L G y) then 1 else 0) := by split <;> rfl
  have htv : vp_nar .boolean (if a = 3 then (1 : Int32) else 0) = (if a = 3 then 1 else 0) := by split <;> rfl
  obtain ⟨sc, wt, wg, hyadv⟩ := ym_ex c (n c) (rg_L G y) b_sentCells b_waits b_waiting
  refine xw_send hX hs hc (l := rg_L G y) (m := rg_X G y) g5 hL27 hk f2 (by rw [hXm]; exact c3) (by omega) ha hA1 ht hT hq1 hq2 ?_ ?_
  · intro nc nu fr fl fb ce ck hadv hlost
    obtain ⟨m', n', w', G1, C1, W1, S1, T1, N1⟩ := ra_adv hV hG hC hW hc ho hwc hy' hadv hyadv
    exact H _ (f_clock, f_buffered, b_frames, (upd a_counts 3 (a_counts 3 + 1)), a_buffer, a_isOpen, a_from, a_to, a_gap, a_tolerance, a_due, wt, wg, sc, b_kept, b_keptOf, b_keptMixed, b_keptTurned, b_numbers, b_circuits, b_lengths, b_spoiled, b_bytes, (upd a_lastSent s (nI c)), (upd b_headAhead s 0), (upd b_contentAhead s 0), (upd a_isWary s 1), a_queueCount, b_queueFrame, b_queueLast, b_queueTurned, a_inCount, b_boxHead, b_boxBytes) (rl_in ⟨F, m', n', w', ls, q, G, Q, ⟨hFK, hFf⟩, sn_S hc hS, sn_A hA, hN, G1, C1, W1, ra_Q hQ S1, ra_K hKk S1⟩)
      (fun P hP => yw_mid hY hs hc hP64 g4 hLen hL27 hk f3 hA2 hA3 hyadv (yw_lost hs hlost hP))
  · intro nc nu fr fl fb ce ck wy e hadv hnl hmid
    obtain ⟨hce, he64, he3, hwy⟩ := hmid
    obtain ⟨m', n', w', G1, C1, W1, S1, T1, N1⟩ := ra_adv hV hG hC hW hc ho hwc hy' hadv hyadv
    obtain ⟨D1, D2⟩ := ra_drop (by omega) G1 C1 W1 hc ho g1 g2 (by omega) N1
    have hce' : xm_cell ce (rg_C G y) (n c) (rg_L G y) (rg_X G y) e (rg_B G y) := by
      obtain ⟨z0, z1, z2, z3⟩ := hce
      refine ⟨by rw [g2]; exact z0, z1, z2, fun i hi => ?_⟩
      rw [z3 i hi, cd_ct_cg (b := fun j => a_frameBytes (27 * (2 * c) + j)) (b' := rg_B G y) g6]
    have hte : (if a = 3 then (1 : Int32) else 0) = if e = 64 then 0 else 1 := by
      by_cases z : a = 3
      · rw [if_pos z, if_neg (fun g => he3.mp g z)]
      · rw [if_neg z, if_pos (he3.mpr z)]
    have YW : ∀ P : SY → Prop, (∀ P' : SY → Prop, (∀ {f_clock f_buffered b_frames : Int32} {a_counts a_buffer a_isOpen a_from a_to a_gap a_tolerance a_due b_waits b_waiting b_sentCells b_kept b_keptOf b_keptMixed b_keptTurned b_numbers b_circuits b_lengths b_spoiled b_bytes a_lastSent b_headAhead b_contentAhead a_isWary a_queueCount b_queueFrame b_queueLast b_queueTurned a_inCount b_boxHead b_boxBytes : Nat → Int32}, P (f_clock, f_buffered, b_frames, a_counts, a_buffer, a_isOpen, a_from, a_to, a_gap, a_tolerance, a_due, b_waits, b_waiting, b_sentCells, b_kept, b_keptOf, b_keptMixed, b_keptTurned, b_numbers, b_circuits, b_lengths, b_spoiled, b_bytes, a_lastSent, b_headAhead, b_contentAhead, a_isWary, a_queueCount, b_queueFrame, b_queueLast, b_queueTurned, a_inCount, b_boxHead, b_boxBytes) → P' (f_clock, f_buffered, b_frames, a_counts, a_buffer, a_isOpen, a_from, a_to, a_gap, a_tolerance, a_due, b_waits, b_waiting, b_sentCells, b_kept, b_keptOf, b_keptMixed, b_keptTurned, b_numbers, b_circuits, b_lengths, b_spoiled, b_bytes, a_lastSent, b_headAhead, b_contentAhead, a_isWary, a_queueCount, b_queueFrame, b_queueLast, b_queueTurned, a_inCount, b_boxHead, b_boxBytes)) → wpY_comeToSwitch P' (f_clock, f_buffered, b_frames, a_counts, a_buffer, a_isOpen, a_from, a_to, a_gap, a_tolerance, a_due, wt, wg, sc, b_kept, b_keptOf, b_keptMixed, b_keptTurned, b_numbers, b_circuits, b_lengths, b_spoiled, b_bytes, (upd a_lastSent s (nI c)), (upd b_headAhead s 0), (upd b_contentAhead s 0), (upd a_isWary s wy), a_queueCount, b_queueFrame, b_queueLast, b_queueTurned, a_inCount, b_boxHead, b_boxBytes) (nI c) (nI (rg_P G y)) (if n c + 1 = cd_n (rg_L G y) then 1 else 0) (if a = 3 then 1 else 0)) → wpY_sendFrom P (f_clock, f_buffered, b_frames, a_counts, a_buffer, a_isOpen, a_from, a_to, a_gap, a_tolerance, a_due, b_waits, b_waiting, b_sentCells, b_kept, b_keptOf, b_keptMixed, b_keptTurned, b_numbers, b_circuits, b_lengths, b_spoiled, b_bytes, a_lastSent, b_headAhead, b_contentAhead, a_isWary, a_queueCount, b_queueFrame, b_queueLast, b_queueTurned, a_inCount, b_boxHead, b_boxBytes) (nI s) :=
      fun P h => yw_mid hY hs hc hP64 g4 hLen hL27 hk f3 hA2 hA3 hyadv (yw_pass hs ha hnl hwy h)
    refine ⟨fun hE => ?_, fun hle dv hdv => ⟨fun hsp hnlast => ?_, fun hsp h6 => ?_, fun hsp h6 => ?_⟩⟩
    · exact H _ (f_clock, f_buffered, b_frames, (upd a_counts 0 (a_counts 0 + 1)), a_buffer, a_isOpen, a_from, a_to, a_gap, a_tolerance, a_due, wt, wg, sc, b_kept, b_keptOf, b_keptMixed, b_keptTurned, b_numbers, b_circuits, b_lengths, (upd b_spoiled (rg_P G y) 1), b_bytes, (upd a_lastSent s (nI c)), (upd b_headAhead s 0), (upd b_contentAhead s 0), (upd a_isWary s wy), a_queueCount, b_queueFrame, b_queueLast, b_queueTurned, a_inCount, b_boxHead, b_boxBytes) (rl_in ⟨F, m', n', w', ls, q, G, Q, ⟨hFK, hFf⟩, sn_S hc hS, sn_A hA, hN, G1, D1, D2, ra_Q hQ S1, ra_K hKk S1⟩)
        (fun P hP => YW P (fun P' hP' => yw_cts hc hP64 ht hT hq1 hq2 hlv htv (fun _ => hP' hP) (fun g => absurd g hE)))
    · have hb : ¬ b_spoiled (rg_P G y) = 0 := fun g => g8.mp g hsp
      exact H _ (f_clock, f_buffered, b_frames, (upd a_counts 1 (a_counts 1 + 1)), a_buffer, a_isOpen, a_from, a_to, a_gap, a_tolerance, (upd a_due c dv), wt, wg, sc, b_kept, b_keptOf, b_keptMixed, b_keptTurned, b_numbers, b_circuits, b_lengths, (upd b_spoiled (rg_P G y) 1), b_bytes, (upd a_lastSent s (nI c)), (upd b_headAhead s 0), (upd b_contentAhead s 0), (upd a_isWary s wy), a_queueCount, b_queueFrame, b_queueLast, b_queueTurned, a_inCount, b_boxHead, b_boxBytes) (rl_in ⟨F, m', n', w', ls, q, G, Q, ⟨hFK, hFf⟩, sn_S hc hS, sn_A hA, hN, G1, D1, D2, ra_Q hQ S1, ra_K hKk S1⟩)
        (fun P hP => YW P (fun P' hP' => yw_cts hc hP64 ht hT hq1 hq2 hlv htv (fun g => absurd hle g) (fun _ dv' hdv' => by
          obtain rfl : dv' = dv := hdv'.trans hdv.symm
          have z0 : (if n c + 1 = cd_n (rg_L G y) then (1 : Int32) else 0) = 0 := if_neg hnlast
          exact ⟨fun _ _ => hP' hP, fun g _ => absurd z0 (g hb), fun g _ => absurd z0 (g hb)⟩)))
    · exact H _ (f_clock, f_buffered, b_frames, (upd a_counts 2 (a_counts 2 + 1)), a_buffer, a_isOpen, a_from, a_to, a_gap, a_tolerance, (upd a_due c dv), wt, wg, sc, b_kept, b_keptOf, b_keptMixed, b_keptTurned, b_numbers, b_circuits, b_lengths, (upd b_spoiled (rg_P G y) 1), b_bytes, (upd a_lastSent s (nI c)), (upd b_headAhead s 0), (upd b_contentAhead s 0), (upd a_isWary s wy), a_queueCount, b_queueFrame, b_queueLast, b_queueTurned, a_inCount, b_boxHead, b_boxBytes) (rl_in ⟨F, m', n', w', ls, q, G, Q, ⟨hFK, hFf⟩, sn_S hc hS, sn_A hA, hN, G1, D1, D2, ra_Q hQ S1, ra_K hKk S1⟩)
        (fun P hP => YW P (fun P' hP' => yw_cts hc hP64 ht hT hq1 hq2 hlv htv (fun g => absurd hle g) (fun _ dv' hdv' => by
          obtain rfl : dv' = dv := hdv'.trans hdv.symm
          refine ⟨fun g1' g2' => ?_, fun _ _ => hP' hP, fun _ g => absurd g (by omega)⟩
          have := hsp (Classical.not_not.mp (fun g => g1' (g8.mpr g)))
          rw [if_pos this] at g2'
          exact absurd g2' (by decide))))
    · exact H _ (f_clock, f_buffered, b_frames, a_counts, a_buffer, a_isOpen, a_from, a_to, a_gap, a_tolerance, (upd a_due c dv), wt, wg, sc, b_kept, b_keptOf, b_keptMixed, b_keptTurned, b_numbers, b_circuits, b_lengths, b_spoiled, b_bytes, (upd a_lastSent s (nI c)), (upd b_headAhead s 0), (upd b_contentAhead s 0), (upd a_isWary s wy), (upd a_queueCount t (nI (q t + 1))), (upd b_queueFrame (6 * t + q t) (nI (rg_P G y))), (upd b_queueLast (6 * t + q t) (if n c + 1 = cd_n (rg_L G y) then 1 else 0)), (upd b_queueTurned (6 * t + q t) (if a = 3 then 1 else 0)), a_inCount, b_boxHead, b_boxBytes)
        (rl_in ⟨F, m', n', w', ls, rl_u q t (q t + 1), G, _, ⟨hFK, hFf⟩, sn_S hc hS, sn_A hA, hN, G1, C1, W1, ra_queue (ra_Q hQ S1) ht h6 g1 hk he64 hte (by rw [g2]; exact ho) (by rw [g2]; exact hT) hce' (by rw [g2]; exact T1) (by rw [g2]; exact hlsc) hlt, ra_K hKk S1⟩)
        (fun P hP => YW P (fun P' hP' => yw_cts hc hP64 ht hT hq1 hq2 hlv htv (fun g => absurd hle g) (fun _ dv' hdv' => by
          obtain rfl : dv' = dv := hdv'.trans hdv.symm
          refine ⟨fun g1' g2' => ?_, fun _ g => absurd g (by omega), fun _ _ => hP' hP⟩
          have := hsp (Classical.not_not.mp (fun g => g1' (g8.mpr g)))
          rw [if_pos this] at g2'
          exact absurd g2' (by decide))))
end
end
section
section
variable {F : Nat} {G : rg_T} {st ls c kc y k e : Nat} {isp knum ko mx tu : Int32} {a_kept ce : Nat → Int32}
/-- X's 'follows' against Y's 'not mixed' -/
theorem dk_A (hF : F ≤ 2560) (hinj : ∀ y y', 1 ≤ y → y ≤ F → 1 ≤ y' → y' ≤ F → rg_C G y = rg_C G y' → rg_X G y = rg_X G y' → y = y') (hXb : ∀ y, 1 ≤ y → y ≤ F → rg_X G y < 65536)
    (k5 : kc = 0 → isp = 0 ∧ mx = 0 ∧ tu = 0) (k6 : 0 < kc → ¬ mx = 0 → ¬ isp = 0) (k7 : 0 < kc → mx = 0 → ∃ y k, rl_k2 F G ls c kc isp knum a_kept ko tu y k)
    (hy1 : 1 ≤ y) (hyF : y ≤ F) (hyc : rg_C G y = c) (hk4 : k < 4) (hls : ls ≤ 8 * rg_X G y + k) :
    (isp = 0 ∧ k = min kc 4 ∧ (k = 0 ∨ knum = nI (rg_X G y))) ↔ ((mx = 0 ∧ (kc = 0 ∨ ko = nI y)) ∧ kc = k) := by
  constructor
  · intro ⟨h1, h2, h3⟩
    have ek : kc = k := by omega
    refine ⟨?_, ek⟩
    by_cases z : kc = 0
    · exact ⟨(k5 z).2.1, Or.inl z⟩
    · have hm : mx = 0 := Classical.not_not.mp (fun g => k6 (by omega) g h1)
      obtain ⟨y0, k0, b1, b2, b3, b4, b5, b6, b7, b8, b9, b10⟩ := k7 (by omega) hm
      refine ⟨hm, Or.inr ?_⟩
      have e3 : knum = nI (rg_X G y) := h3.resolve_left (by omega)
      rw [b5, nI_eq (by have := hXb y0 b1 b2; omega) (by have := hXb y hy1 hyF; omega)] at e3
      rw [b4, hinj y0 y b1 b2 hy1 hyF (by rw [b3, hyc]) e3]
  · intro ⟨⟨h1, h2⟩, h3⟩
    by_cases z : kc = 0
    · exact ⟨(k5 z).1, by omega, Or.inl (by omega)⟩
    · obtain ⟨y0, k0, b1, b2, b3, b4, b5, b6, b7, b8, b9, b10⟩ := k7 (by omega) h1
      have e2 : ko = nI y := h2.resolve_left z
      rw [b4, nI_eq (by omega) (by omega)] at e2
      subst e2
      exact ⟨b9.mpr (by omega), by omega, Or.inr b5⟩
theorem dk_B (hF : F ≤ 2560) (k7 : 0 < kc → mx = 0 → ∃ y k, rl_k2 F G ls c kc isp knum a_kept ko tu y k) (hyF : y ≤ F) (hls : ls ≤ 8 * rg_X G y + k) (hm : mx = 0 ∧ (kc = 0 ∨ ko = nI y)) : kc ≤ k := by
  by_cases z : kc = 0
  · omega
  · obtain ⟨y0, k0, b1, b2, b3, b4, b5, b6, b7, b8, b9, b10⟩ := k7 (by omega) hm.1
    have e2 : ko = nI y := hm.2.resolve_left z
    rw [b4, nI_eq (by omega) (by omega)] at e2
    subst e2
    omega
theorem dk_C (hF : F ≤ 2560) (k5 : kc = 0 → isp = 0 ∧ mx = 0 ∧ tu = 0) (k7 : 0 < kc → mx = 0 → ∃ y k, rl_k2 F G ls c kc isp knum a_kept ko tu y k)
    (hyF : y ≤ F) (hk4 : k < 4) (he : e ≤ 64) (hsp : isp = 0) (hm : mx = 0 ∧ (kc = 0 ∨ ko = nI y)) (hkk : kc = k)
    (hce : ∀ i, i < 8 → ce (4 + i) = cd_ct (rg_L G y) (rg_B G y) (8 * k + i) ^^^ cs_er e i) :
    ∃ e' : Nat → Nat, (∀ j, j < kc + 1 → e' j ≤ 64 ∧ ∀ i, i < 8 → ar_cp a_kept (8 * (4 * c + k)) 8 (fun i => ce (4 + i)) (32 * c + 8 * j + i) = cd_ct (rg_L G y) (rg_B G y) (8 * j + i) ^^^ cs_er (e' j) i) ∧ ((tu = 0 ∧ e = 64) ↔ ∀ j, j < kc + 1 → e' j = 64) := by
  have hnew : ∀ i, i < 8 → ar_cp a_kept (8 * (4 * c + k)) 8 (fun i => ce (4 + i)) (32 * c + 8 * k + i) = cd_ct (rg_L G y) (rg_B G y) (8 * k + i) ^^^ cs_er e i := fun i hi => by
    rw [ar_in' _ _ (by omega) (by omega), show 32 * c + 8 * k + i - 8 * (4 * c + k) = i by omega]
    exact hce i hi
  by_cases z : kc = 0
  · refine ⟨fun _ => e, fun j hj => ⟨he, fun i hi => ?_⟩, ?_⟩
    · obtain rfl : j = k := by omega
      exact hnew i hi
    · constructor
      · exact fun g _ _ => g.2
      · exact fun g => ⟨(k5 z).2.2, g 0 (by omega)⟩
  · obtain ⟨y0, k0, b1, b2, b3, b4, b5, b6, b7, b8, b9, b10⟩ := k7 (by omega) hm.1
    have e2 : ko = nI y := hm.2.resolve_left z
    rw [b4, nI_eq (by omega) (by omega)] at e2
    subst e2
    obtain ⟨e0, q1, q2⟩ := b10 hsp
    refine ⟨fun j => if j = k then e else e0 j, fun j hj => ?_, ?_⟩
    · by_cases ej : j = k
      · subst ej
        dsimp only
        rw [if_pos rfl]
        exact ⟨he, hnew⟩
      · dsimp only
        rw [if_neg ej]
        refine ⟨(q1 j (by omega)).1, fun i hi => ?_⟩
        rw [ar_out _ _ (by omega)]
        exact (q1 j (by omega)).2 i hi
    · rw [q2]
      constructor
      · intro ⟨g1, g2⟩ j hj
        show (if j = k then e else e0 j) = 64
        by_cases ej : j = k
        · rw [if_pos ej]; exact g2
        · rw [if_neg ej]; exact g1 j (by omega)
      · intro g
        refine ⟨fun j hj => ?_, ?_⟩
        · have g1 : (if j = k then e else e0 j) = 64 := g j (by omega)
          rwa [if_neg (by omega)] at g1
        · have g1 : (if k = k then e else e0 k) = 64 := g k (by omega)
          rwa [if_pos rfl] at g1
/-- what is kept after one more cell, not the last -/
theorem dk_new {sp' mv tv qv : Int32} {kept' : Nat → Int32} {ko' : Int32} (hF : F ≤ 2560) (hinj : ∀ y y', 1 ≤ y → y ≤ F → 1 ≤ y' → y' ≤ F → rg_C G y = rg_C G y' → rg_X G y = rg_X G y' → y = y') (hXb : ∀ y, 1 ≤ y → y ≤ F → rg_X G y < 65536)
    (k3 : kc ≤ ls) (k5 : kc = 0 → isp = 0 ∧ mx = 0 ∧ tu = 0) (k6 : 0 < kc → ¬ mx = 0 → ¬ isp = 0) (k7 : 0 < kc → mx = 0 → ∃ y k, rl_k2 F G ls c kc isp knum a_kept ko tu y k)
    (hy1 : 1 ≤ y) (hyF : y ≤ F) (hyc : rg_C G y = c) (hk4 : k < 4) (hkn : k < cd_n (rg_L G y)) (hls : ls ≤ 8 * rg_X G y + k) (hst : 8 * rg_X G y + k < st) (he : e ≤ 64)
    (hce : ∀ i, i < 8 → ce (4 + i) = cd_ct (rg_L G y) (rg_B G y) (8 * k + i) ^^^ cs_er e i)
    (hqv : qv = if e = 64 then 0 else 1)
    (hsp' : sp' = 0 ↔ (isp = 0 ∧ k = min kc 4 ∧ (k = 0 ∨ knum = nI (rg_X G y)))) (hkept : sp' = 0 → kept' = ar_cp a_kept (8 * (4 * c + k)) 8 (fun i => ce (4 + i)))
    (hko : ko' = if kc = 0 then nI y else ko) (hmv : mv = 0 ↔ (mx = 0 ∧ ko' = nI y)) (htv : tv = 0 ↔ (tu = 0 ∧ qv = 0)) :
    rl_k1 F G st (8 * rg_X G y + k + 1) c (nI (min (kc + 1) 4)) sp' (nI (rg_X G y)) kept' (nI (kc + 1)) ko' mv tv := by
  have A := dk_A hF hinj hXb k5 k6 k7 hy1 hyF hyc hk4 hls
  have hko2 : ko' = nI y ↔ (kc = 0 ∨ ko = nI y) := by
    rw [hko]
    by_cases z : kc = 0
    · rw [if_pos z]; exact ⟨fun _ => Or.inl z, fun _ => rfl⟩
    · rw [if_neg z]; exact ⟨Or.inr, fun g => g.resolve_left z⟩
  rw [hko2] at hmv
  refine ⟨kc + 1, rfl, rfl, by omega, by omega, fun z => absurd z (by omega), fun _ z g => ?_, fun _ z => ?_⟩
  · exact z (hmv.mpr (A.mp (hsp'.mp g)).1)
  · have hm := hmv.mp z
    have hB := dk_B hF k7 hyF hls hm
    refine ⟨y, k, hy1, hyF, hyc, hko2.mpr hm.2, rfl, rfl, hkn, by omega, ?_, fun g => ?_⟩
    · rw [hsp', A]
      constructor
      · intro g; omega
      · intro g; exact ⟨hm, by omega⟩
    · have g2 := hsp'.mp g
      obtain ⟨e', q1, q2⟩ := dk_C (c := c) hF k5 k7 hyF hk4 he g2.1 hm (A.mp g2).2 hce
      refine ⟨e', ?_, ?_⟩
      · rw [hkept g]; exact q1
      · rw [htv, hqv, ← q2]
        by_cases z2 : e = 64
        · rw [if_pos z2]; simp [z2]
        · rw [if_neg z2]; simp [z2]
theorem dk_cg {kcx bk : Int32} {a_kept' : Nat → Int32} (hG : ∀ y, rg_L G y ≤ 27) (h : ∀ i, i < 32 → a_kept' (32 * c + i) = a_kept (32 * c + i)) (hk : rl_k1 F G st ls c kcx isp knum a_kept bk ko mx tu) : rl_k1 F G st ls c kcx isp knum a_kept' bk ko mx tu := by
  obtain ⟨kc, k1, k2, k3, k4, k5, k6, k7⟩ := hk
  refine ⟨kc, k1, k2, k3, k4, k5, k6, fun z1 z2 => ?_⟩
  obtain ⟨y0, k0, b1, b2, b3, b4, b5, b6, b7, b8, b9, b10⟩ := k7 z1 z2
  refine ⟨y0, k0, b1, b2, b3, b4, b5, b6, b7, b8, b9, fun g => ?_⟩
  obtain ⟨e0, q1, q2⟩ := b10 g
  refine ⟨e0, fun j hj => ⟨(q1 j hj).1, fun i hi => ?_⟩, q2⟩
  have := cd_n_in (hG y0)
  have := b9.mp g
  rw [← (q1 j hj).2 i hi, show 32 * c + 8 * j + i = 32 * c + (8 * j + i) by omega]
  exact h _ (by omega)
theorem dk_0 {knum' : Int32} (h : ls ≤ st) : rl_k1 F G st ls c 0 0 knum' a_kept 0 ko 0 0 :=
  ⟨0, rfl, rfl, by omega, h, fun _ => ⟨rfl, rfl, rfl⟩, fun z => absurd z (by omega), fun z => absurd z (by omega)⟩
end
/-- the first cell of a queue is taken -/
theorem dq_shift {G : rg_T} {V : Nat → Prop} {st ls q : Nat → Nat} {Q : Nat → Nat → Nat × Nat × Nat} {s q0 : Nat} {a_isOpen a_to a_queueCount a_queue b_queueFrame b_queueLast b_queueTurned : Nat → Int32}
    (h : rl_Q G V st ls q Q a_isOpen a_to a_queueCount a_queue b_queueFrame b_queueLast b_queueTurned) (hs : s < 4) (hq : q s = q0 + 1) :
    rl_Q G V st (rl_u ls (rg_C G (rq_y (Q s 0))) (rq_t G (Q s 0) + 1)) (rl_u q s q0) (fun s' j => if s' = s then Q s' (j + 1) else Q s' j) a_isOpen a_to (upd a_queueCount s (nI q0)) (ar_cp a_queue (72 * s) (12 * q0) (fun j => a_queue (72 * s + j + 12)))
      (ar_cp b_queueFrame (6 * s) q0 (fun j => b_queueFrame (6 * s + j + 1))) (ar_cp b_queueLast (6 * s) q0 (fun j => b_queueLast (6 * s + j + 1))) (ar_cp b_queueTurned (6 * s) q0 (fun j => b_queueTurned (6 * s + j + 1))) := by
  obtain ⟨h1, h2, h3, h4⟩ := h
  have hq6 := (h1 s hs).2
  refine ⟨fun s' hs' => ?_, fun s' hs' j hj => ?_, fun s' hs' i j hij hj => ?_, fun s' hs' j hj => ?_⟩
  · by_cases es : s' = s
    · subst es
      rw [pk_us, rl_us]
      exact ⟨rfl, by omega⟩
    · rw [pk_un es, rl_un _ _ es]
      exact h1 s' hs'
  · dsimp only
    by_cases es : s' = s
    · subst es
      rw [if_pos rfl]
      rw [rl_us] at hj
      obtain ⟨w1, w2, w3, w4, w5, w6, w7, w8, w9, w10, w11, w12⟩ := h2 s' hs' (j + 1) (by omega)
      refine ⟨w1, w2, w3, w4, w5, ?_, ?_, ?_, ?_, ?_, ?_, fun i hi => ?_⟩
      · rw [ar_in _ _ _ _ hj]; exact w6
      · rw [ar_in _ _ _ _ hj]; exact w7
      · rw [ar_in _ _ _ _ hj]; exact w8
      · rw [ar_in' _ _ (by omega) (by omega), ← w9]; congr 1; omega
      · rw [ar_in' _ _ (by omega) (by omega), ← w10]; congr 1; omega
      · rw [ar_in' _ _ (by omega) (by omega), ← w11]; congr 1; omega
      · rw [ar_in' _ _ (by omega) (by omega), ← w12 i hi]; congr 1; omega
    · rw [if_neg es]
      rw [rl_un _ _ es] at hj
      have hq6' := (h1 s' hs').2
      obtain ⟨w1, w2, w3, w4, w5, w6, w7, w8, w9, w10, w11, w12⟩ := h2 s' hs' j hj
      refine ⟨w1, w2, w3, w4, w5, ?_, ?_, ?_, ?_, ?_, ?_, fun i hi => ?_⟩
      · rw [ar_out _ _ (by omega)]; exact w6
      · rw [ar_out _ _ (by omega)]; exact w7
      · rw [ar_out _ _ (by omega)]; exact w8
      · rw [ar_out _ _ (by omega)]; exact w9
      · rw [ar_out _ _ (by omega)]; exact w10
      · rw [ar_out _ _ (by omega)]; exact w11
      · rw [ar_out _ _ (by omega)]; exact w12 i hi
  · dsimp only
    by_cases es : s' = s
    · subst es
      rw [if_pos rfl, if_pos rfl]
      rw [rl_us] at hj
      exact h3 s' hs' (i + 1) (j + 1) (by omega) (by omega)
    · rw [if_neg es, if_neg es]
      rw [rl_un _ _ es] at hj
      exact h3 s' hs' i j hij hj
  · dsimp only
    by_cases es : s' = s
    · subst es
      rw [if_pos rfl]
      rw [rl_us] at hj
      have h4' := h4 s' hs' (j + 1) (by omega)
      refine ⟨h4'.1, ?_⟩
      by_cases ec : rg_C G (rq_y (Q s' (j + 1))) = rg_C G (rq_y (Q s' 0))
      · rw [ec, rl_us]
        have := h3 s' hs' 0 (j + 1) (by omega) (by omega) ec.symm
        omega
      · rw [rl_un _ _ ec]
        exact h4'.2
    · rw [if_neg es]
      rw [rl_un _ _ es] at hj
      have h4' := h4 s' hs' j hj
      refine ⟨h4'.1, ?_⟩
      have ec : rg_C G (rq_y (Q s' j)) ≠ rg_C G (rq_y (Q s 0)) := fun g => by
        have a1 := (h2 s' hs' j hj).2.2.2.2.1
        have a2 := (h2 s hs 0 (by omega)).2.2.2.2.1
        rw [g, a2, nI_eq (by omega) (by omega)] at a1
        exact es a1.symm
      rw [rl_un _ _ ec]
      exact h4'.2
end
section
theorem dn_N {s b c l : Nat} {f g a_inCount a_inCircuit a_inLength a_inBytes b_boxHead b_boxBytes : Nat → Int32} (h : rl_N a_inCount a_inCircuit a_inLength a_inBytes b_boxHead b_boxBytes) (hs : s < 4) (hb : b < 4) (hB : a_inCount s = nI b) (hc : c < 8) (hl1 : 1 ≤ l) (hl : l ≤ 27) (hfg : ∀ i, i < l → f i = g i) :
    rl_N (upd a_inCount s (nI (b + 1))) (upd a_inCircuit (4 * s + b) (nI c)) (upd a_inLength (4 * s + b) (nI l)) (ar_cp a_inBytes (27 * (4 * s + b)) l f) (upd b_boxHead (4 * s + b) (nI (32 * c + l))) (ar_cp b_boxBytes (27 * (4 * s + b)) 27 g) := by
  intro s' hs'
  obtain ⟨b', hb', hB', h'⟩ := h s' hs'
  have old : ∀ j, j < b' → 4 * s' + j ≠ 4 * s + b → ∃ c1 l', c1 < 8 ∧ 1 ≤ l' ∧ l' ≤ 27 ∧ upd a_inCircuit (4 * s + b) (nI c) (4 * s' + j) = nI c1 ∧ upd a_inLength (4 * s + b) (nI l) (4 * s' + j) = nI l' ∧ upd b_boxHead (4 * s + b) (nI (32 * c + l)) (4 * s' + j) = nI (32 * c1 + l') ∧ ∀ i, i < l' → ar_cp a_inBytes (27 * (4 * s + b)) l f (27 * (4 * s' + j) + i) = ar_cp b_boxBytes (27 * (4 * s + b)) 27 g (27 * (4 * s' + j) + i) := by
    intro j hj hne
    obtain ⟨c1, l1, d1, d2, d3, d4, d5, d6, d7⟩ := h' j hj
    refine ⟨c1, l1, d1, d2, d3, by rw [pk_un hne]; exact d4, by rw [pk_un hne]; exact d5, by rw [pk_un hne]; exact d6, fun i hi => ?_⟩
    rw [ar_out _ _ (by omega), ar_out _ _ (by omega)]
    exact d7 i hi
  by_cases e : s' = s
  · subst e
    have eb : b' = b := by rw [hB, nI_eq (by omega) (by omega)] at hB'; exact hB'.symm
    subst eb
    refine ⟨b' + 1, by omega, pk_us, fun j hj => ?_⟩
    by_cases ej : j = b'
    · subst ej
      refine ⟨c, l, hc, hl1, hl, pk_us, pk_us, pk_us, fun i hi => ?_⟩
      rw [ar_in _ _ _ _ hi, ar_in _ _ _ _ (by omega)]
      exact hfg i hi
    · exact old j (by omega) (by omega)
  · refine ⟨b', hb', by rw [pk_un e]; exact hB', fun j hj => old j hj (by omega)⟩
theorem dk_all {F : Nat} {G : rg_T} {st ls : Nat → Nat} {c l' : Nat} {kcx isp knum bk mx tu : Int32} {a_isOpen a_keptCount a_isSpoiled a_keptNumber a_kept kept' b_kept b_keptOf ko b_keptMixed b_keptTurned : Nat → Int32}
    (h : rl_K F G st ls a_isOpen a_keptCount a_isSpoiled a_keptNumber a_kept b_kept b_keptOf b_keptMixed b_keptTurned) (hG : ∀ y, rg_L G y ≤ 27)
    (hko : ∀ c', c' ≠ c → ko c' = b_keptOf c') (hk : ∀ c', c' ≠ c → ∀ i, i < 32 → kept' (32 * c' + i) = a_kept (32 * c' + i))
    (h1 : rl_k1 F G (st c) l' c kcx isp knum kept' bk (ko c) mx tu) :
    rl_K F G st (rl_u ls c l') a_isOpen (upd a_keptCount c kcx) (upd a_isSpoiled c isp) (upd a_keptNumber c knum) kept' (upd b_kept c bk) ko (upd b_keptMixed c mx) (upd b_keptTurned c tu) := by
  intro c' hc' ho
  by_cases e : c' = c
  · subst e
    rw [rl_us, pk_us, pk_us, pk_us, pk_us, pk_us, pk_us]
    exact h1
  · rw [rl_un _ _ e, pk_un e, pk_un e, pk_un e, pk_un e, pk_un e, pk_un e, hko c' e]
    exact dk_cg hG (hk c' e) (h c' hc' ho)
theorem dk_bytes {L c : Nat} {B : Nat → Int32} {e : Nat → Nat} {a_kept : Nat → Int32} (hL : L ≤ 27) (hk : ∀ j, j < cd_n L → ∀ i, i < 8 → a_kept (32 * c + 8 * j + i) = cd_ct L B (8 * j + i) ^^^ cs_er (e j) i) (he : ∀ j, j < cd_n L → e j = 64) :
    a_kept (32 * c + 8 * cd_n L - 5) = nI L ∧ ∀ i, i < L → a_kept (32 * c + i) = B i := by
  have hn := cd_n_in hL
  have hh : ∀ i, i < 8 * cd_n L → a_kept (32 * c + i) = cd_ct L B i := fun i hi => by
    have := hk (i / 8) (by omega) (i % 8) (by omega)
    rwa [show 32 * c + 8 * (i / 8) + i % 8 = 32 * c + i by omega, show 8 * (i / 8) + i % 8 = i by omega, he _ (by omega), cd_er64 _ (by omega), cs_x0] at this
  constructor
  · rw [show 32 * c + 8 * cd_n L - 5 = 32 * c + (8 * cd_n L - 5) by omega, hh _ (by omega)]
    unfold cd_ct cd_pad
    rw [if_pos (by omega), if_neg (by omega), if_pos rfl]
  · intro i hi
    rw [hh i (by omega)]
    unfold cd_ct cd_pad
    rw [if_pos (by omega), if_pos hi]
section
variable {f_buffered f_clock f_check b_frames : Int32} {a_isOpen a_from a_to a_gap a_tolerance a_due a_frames a_frameLength a_frameBytes a_nextCell a_number a_spoiledNumber a_buffer a_cell a_lastSent a_ahead a_which a_isWary a_queueCount a_queue a_inCount a_inCircuit a_inLength a_inBytes a_keptCount a_isSpoiled a_keptNumber a_kept a_counts b_waits b_waiting b_sentCells b_kept b_keptOf b_keptMixed b_keptTurned b_numbers b_circuits b_lengths b_spoiled b_bytes b_headAhead b_contentAhead b_queueFrame b_queueLast b_queueTurned b_boxHead b_boxBytes : Nat → Int32}
theorem dl_both {K : Nat} (hK : K ≤ 2560) (hE : rl_E K f_buffered f_clock f_check a_isOpen a_from a_to a_gap a_tolerance a_due a_frames a_frameLength a_frameBytes a_nextCell a_number a_spoiledNumber a_buffer a_cell a_lastSent a_ahead a_which a_isWary a_queueCount a_queue a_inCount a_inCircuit a_inLength a_inBytes a_keptCount a_isSpoiled a_keptNumber a_kept a_counts b_frames b_waits b_waiting b_sentCells b_kept b_keptOf b_keptMixed b_keptTurned b_numbers b_circuits b_lengths b_spoiled b_bytes b_headAhead b_contentAhead b_queueFrame b_queueLast b_queueTurned b_boxHead b_boxBytes) {s : Nat} (hs : s < 4) {post : SX → Prop}
    (H : ∀ u' v', i_Rel K u' v' → (∀ P : SY → Prop, P v' → ((a_queueCount s ≤ 0 → P (f_clock, f_buffered, b_frames, a_counts, a_buffer, a_isOpen, a_from, a_to, a_gap, a_tolerance, a_due, b_waits, b_waiting, b_sentCells, b_kept, b_keptOf, b_keptMixed, b_keptTurned, b_numbers, b_circuits, b_lengths, b_spoiled, b_bytes, a_lastSent, b_headAhead, b_contentAhead, a_isWary, a_queueCount, b_queueFrame, b_queueLast, b_queueTurned, a_inCount, b_boxHead, b_boxBytes)) ∧ (¬ a_queueCount s ≤ 0 → wpY_comeToStation P (f_clock, f_buffered, b_frames, a_counts, a_buffer, a_isOpen, a_from, a_to, a_gap, a_tolerance, a_due, b_waits, b_waiting, b_sentCells, b_kept, b_keptOf, b_keptMixed, b_keptTurned, b_numbers, b_circuits, b_lengths, b_spoiled, b_bytes, a_lastSent, b_headAhead, b_contentAhead, a_isWary, a_queueCount, b_queueFrame, b_queueLast, b_queueTurned, a_inCount, b_boxHead, b_boxBytes) (nI s)))) → post u') : wpX_deliverTo post (f_buffered, f_clock, f_check, a_isOpen, a_from, a_to, a_gap, a_tolerance, a_due, a_frames, a_frameLength, a_frameBytes, a_nextCell, a_number, a_spoiledNumber, a_buffer, a_cell, a_lastSent, a_ahead, a_which, a_isWary, a_queueCount, a_queue, a_inCount, a_inCircuit, a_inLength, a_inBytes, a_keptCount, a_isSpoiled, a_keptNumber, a_kept, a_counts) (nI s) := by
  obtain ⟨F, m, n, w, ls, q, G, Q, ⟨hFK, hFf⟩, hS, hA, hN, hG, hC, hW, hQ, hKk⟩ := hE
  obtain ⟨hq1, hq2⟩ := hQ.1 s hs
  by_cases hz : q s = 0
  · rw [hz] at hq1
    refine xw_deliver0 hs hq1 (H _ _ (rl_in ⟨F, m, n, w, ls, q, G, Q, ⟨hFK, hFf⟩, hS, hA, hN, hG, hC, hW, hQ, hKk⟩) (fun P hP => ⟨fun _ => hP, fun g => absurd ?_ g⟩))
    rw [hq1]
    decide
  obtain ⟨q0, hq0⟩ : ∃ q0, q s = q0 + 1 := ⟨q s - 1, by omega⟩
  have hE0 := hQ.2.1 s hs 0 (by omega)
  have hT0 := hQ.2.2.2 s hs 0 (by omega)
  have SH := dq_shift hQ hs hq0
  obtain ⟨y, k, e, hQ0⟩ : ∃ y k e, Q s 0 = (y, k, e) := ⟨_, _, _, rfl⟩
  unfold rl_e1 at hE0
  rw [hQ0] at hE0 hT0 SH
  dsimp only [rq_y, rq_k, rq_e, rq_t] at hE0 hT0 SH
  obtain ⟨w1, w2, w3, w4, w5, w6, w7, w8, w9, w10, w11, w12⟩ := hE0
  have hc := (hG.1 y).1
  have hL1 := (hG.1 y).2.1
  have hL27 := (hG.1 y).2.2.1
  have hBB := (hG.1 y).2.2.2
  have hn := cd_n_in hL27
  obtain ⟨v1, v2, v3, v4, v5, v6, v7⟩ := w1
  have hXb : ∀ y, 1 ≤ y → y ≤ F → rg_X G y < 65536 := fun y h1 h2 => by
    have := hG.2.2.1 y h1 h2
    have := hG.2.2.2 (rg_C G y)
    omega
  have hx := hXb y v1 v2
  have hLs : ∀ y, rg_L G y ≤ 27 := fun y => (hG.1 y).2.2.1
  obtain ⟨kc, k1, k2, k3, k4, k5, k6, k7⟩ := hKk _ hc w4
  have hkc : kc < 65536 := by
    have := hG.2.2.2 (rg_C G y)
    have := (hC _ hc).2.2.2.2 w4
    unfold rl_st at k4
    omega
  rw [hq0] at hq1
  have hq0' : ¬ a_queueCount s ≤ 0 := by rw [hq1]; exact nI_nle (by omega) (by omega)
  obtain ⟨b, hb, hB, _⟩ := hN s hs
  -- the reference
  obtain ⟨ko, hko⟩ : ∃ ko, ko = if kc = 0 then upd b_keptOf (rg_C G y) (b_numbers (rg_P G y)) else b_keptOf := ⟨_, rfl⟩
  have hkoc : ko (rg_C G y) = if kc = 0 then nI y else b_keptOf (rg_C G y) := by
    rw [hko]
    by_cases z : kc = 0
    · rw [if_pos z, if_pos z, pk_us, v4]
    · rw [if_neg z, if_neg z]
  have hkon : ∀ c', c' ≠ rg_C G y → ko c' = b_keptOf c' := fun c' hne => by
    rw [hko]
    by_cases z : kc = 0
    · rw [if_pos z, pk_un hne]
    · rw [if_neg z]
  obtain ⟨mv, hmv⟩ : ∃ mv : Int32, mv = 0 ∧ b_keptMixed (rg_C G y) = 0 ∧ ko (rg_C G y) = b_numbers (rg_P G y) ∨ mv = 1 ∧ ¬ (b_keptMixed (rg_C G y) = 0 ∧ ko (rg_C G y) = b_numbers (rg_P G y)) := by
    by_cases z : b_keptMixed (rg_C G y) = 0 ∧ ko (rg_C G y) = b_numbers (rg_P G y)
    · exact ⟨0, Or.inl ⟨rfl, z⟩⟩
    · exact ⟨1, Or.inr ⟨rfl, z⟩⟩
  obtain ⟨qv, hqv⟩ : ∃ qv : Int32, qv = if e = 64 then 0 else 1 := ⟨_, rfl⟩
  obtain ⟨lv, hlv⟩ : ∃ lv : Int32, lv = if k + 1 = cd_n (rg_L G y) then 1 else 0 := ⟨_, rfl⟩
  have w8 : b_queueTurned (6 * s) = qv := w8.trans hqv.symm
  have w7 : b_queueLast (6 * s) = lv := w7.trans hlv.symm
  obtain ⟨tv, htv⟩ : ∃ tv : Int32, tv = 0 ∧ b_keptTurned (rg_C G y) = 0 ∧ qv = 0 ∨ tv = 1 ∧ ¬ (b_keptTurned (rg_C G y) = 0 ∧ qv = 0) := by
    by_cases z : b_keptTurned (rg_C G y) = 0 ∧ qv = 0
    · exact ⟨0, Or.inl ⟨rfl, z⟩⟩
    · exact ⟨1, Or.inr ⟨rfl, z⟩⟩
  have hmv' : mv = 0 ↔ (b_keptMixed (rg_C G y) = 0 ∧ ko (rg_C G y) = nI y) := by
    rw [v4] at hmv
    rcases hmv with ⟨z1, z2⟩ | ⟨z1, z2⟩
    · exact ⟨fun _ => z2, fun _ => z1⟩
    · exact ⟨fun g => by rw [z1] at g; exact absurd g (by decide), fun g => absurd g z2⟩
  have htv' : tv = 0 ↔ (b_keptTurned (rg_C G y) = 0 ∧ qv = 0) := by
    rcases htv with ⟨z1, z2⟩ | ⟨z1, z2⟩
    · exact ⟨fun _ => z2, fun _ => z1⟩
    · exact ⟨fun g => by rw [z1] at g; exact absurd g (by decide), fun g => absurd g z2⟩
  have hb1 : ∀ j, j < q0 → vp_nar .boolean (b_queueLast (6 * s + j + 1)) = b_queueLast (6 * s + j + 1) := fun j hj => by
    have := (hQ.2.1 s hs (j + 1) (by omega)).2.2.2.2.2.2.1
    rw [show 6 * s + j + 1 = 6 * s + (j + 1) by omega, this]
    split <;> rfl
  have hb2 : ∀ j, j < q0 → vp_nar .boolean (b_queueTurned (6 * s + j + 1)) = b_queueTurned (6 * s + j + 1) := fun j hj => by
    have := (hQ.2.1 s hs (j + 1) (by omega)).2.2.2.2.2.2.2.1
    rw [show 6 * s + j + 1 = 6 * s + (j + 1) by omega, this]
    split <;> rfl
  have YW : ∀ P : SY → Prop, (lv = 0 → P (f_clock, f_buffered, b_frames, a_counts, a_buffer, a_isOpen, a_from, a_to, a_gap, a_tolerance, a_due, b_waits, b_waiting, b_sentCells, (upd b_kept (rg_C G y) (nI (kc + 1))), ko, (upd b_keptMixed (rg_C G y) mv), (upd b_keptTurned (rg_C G y) tv), b_numbers, b_circuits, b_lengths, b_spoiled, b_bytes, a_lastSent, b_headAhead, b_contentAhead, a_isWary, (upd a_queueCount s (nI q0)), (ar_cp b_queueFrame (6 * s) q0 (fun j => b_queueFrame (6 * s + j + 1))), (ar_cp b_queueLast (6 * s) q0 (fun j => b_queueLast (6 * s + j + 1))), (ar_cp b_queueTurned (6 * s) q0 (fun j => b_queueTurned (6 * s + j + 1))), a_inCount, b_boxHead, b_boxBytes)) →
      (¬ lv = 0 → ¬ (mv = 0 ∧ tv = 0 ∧ kc + 1 = cd_n (rg_L G y)) → P (f_clock, f_buffered, b_frames, (upd a_counts 5 (a_counts 5 + 1)), a_buffer, a_isOpen, a_from, a_to, a_gap, a_tolerance, a_due, b_waits, b_waiting, b_sentCells, (upd b_kept (rg_C G y) 0), ko, (upd b_keptMixed (rg_C G y) 0), (upd b_keptTurned (rg_C G y) 0), b_numbers, b_circuits, b_lengths, b_spoiled, b_bytes, a_lastSent, b_headAhead, b_contentAhead, a_isWary, (upd a_queueCount s (nI q0)), (ar_cp b_queueFrame (6 * s) q0 (fun j => b_queueFrame (6 * s + j + 1))), (ar_cp b_queueLast (6 * s) q0 (fun j => b_queueLast (6 * s + j + 1))), (ar_cp b_queueTurned (6 * s) q0 (fun j => b_queueTurned (6 * s + j + 1))), a_inCount, b_boxHead, b_boxBytes)) →
      (¬ lv = 0 → mv = 0 ∧ tv = 0 ∧ kc + 1 = cd_n (rg_L G y) → b = 4 → P (f_clock, f_buffered, b_frames, (upd a_counts 6 (a_counts 6 + 1)), a_buffer, a_isOpen, a_from, a_to, a_gap, a_tolerance, a_due, b_waits, b_waiting, b_sentCells, (upd b_kept (rg_C G y) 0), ko, (upd b_keptMixed (rg_C G y) 0), (upd b_keptTurned (rg_C G y) 0), b_numbers, b_circuits, b_lengths, b_spoiled, b_bytes, a_lastSent, b_headAhead, b_contentAhead, a_isWary, (upd a_queueCount s (nI q0)), (ar_cp b_queueFrame (6 * s) q0 (fun j => b_queueFrame (6 * s + j + 1))), (ar_cp b_queueLast (6 * s) q0 (fun j => b_queueLast (6 * s + j + 1))), (ar_cp b_queueTurned (6 * s) q0 (fun j => b_queueTurned (6 * s + j + 1))), a_inCount, b_boxHead, b_boxBytes)) →
      (¬ lv = 0 → mv = 0 ∧ tv = 0 ∧ kc + 1 = cd_n (rg_L G y) → b < 4 → P (f_clock, f_buffered, b_frames, (upd a_counts 4 (a_counts 4 + 1)), a_buffer, a_isOpen, a_from, a_to, a_gap, a_tolerance, a_due, b_waits, b_waiting, b_sentCells, (upd b_kept (rg_C G y) 0), ko, (upd b_keptMixed (rg_C G y) 0), (upd b_keptTurned (rg_C G y) 0), b_numbers, b_circuits, b_lengths, b_spoiled, b_bytes, a_lastSent, b_headAhead, b_contentAhead, a_isWary, (upd a_queueCount s (nI q0)), (ar_cp b_queueFrame (6 * s) q0 (fun j => b_queueFrame (6 * s + j + 1))), (ar_cp b_queueLast (6 * s) q0 (fun j => b_queueLast (6 * s + j + 1))), (ar_cp b_queueTurned (6 * s) q0 (fun j => b_queueTurned (6 * s + j + 1))), (upd a_inCount s (nI (b + 1))), (upd b_boxHead (4 * s + b) (nI (32 * rg_C G y + rg_L G y))), (ar_cp b_boxBytes (27 * (4 * s + b)) 27 (fun i => b_bytes (27 * rg_P G y + i))))) →
      wpY_comeToStation P (f_clock, f_buffered, b_frames, a_counts, a_buffer, a_isOpen, a_from, a_to, a_gap, a_tolerance, a_due, b_waits, b_waiting, b_sentCells, b_kept, b_keptOf, b_keptMixed, b_keptTurned, b_numbers, b_circuits, b_lengths, b_spoiled, b_bytes, a_lastSent, b_headAhead, b_contentAhead, a_isWary, a_queueCount, b_queueFrame, b_queueLast, b_queueTurned, a_inCount, b_boxHead, b_boxBytes) (nI s) := fun P p1 p2 p3 p4 =>
    yw_station hs v3 hc (by omega) hq1 w6 w7 w8 v5 k1 hkc hko hb1 hb2 (yw_cs148 hs v3 hc hb hB v5 v6 hL27 k1 hkc hmv htv p1 p2 p3 p4)
  -- the cell
  have hZ : (if k + 1 = cd_n (rg_L G y) then 8 else 0) = 8 ∧ k + 1 = cd_n (rg_L G y) ∨ (if k + 1 = cd_n (rg_L G y) then 8 else 0) = 0 ∧ k + 1 ≠ cd_n (rg_L G y) := by
    by_cases z : k + 1 = cd_n (rg_L G y)
    · exact Or.inl ⟨if_pos z, z⟩
    · exact Or.inr ⟨if_neg z, z⟩
  obtain ⟨ce, hce⟩ : ∃ ce, ce = ar_cp a_cell 0 12 (fun i => a_queue (72 * s + i)) := ⟨_, rfl⟩
  have hceq : ∀ i, i < 12 → ce i = a_queue (12 * (6 * s + 0) + i) := fun i hi => by
    rw [hce, ar_in' _ _ (by omega) (by omega)]
    show a_queue _ = _
    congr 1
    omega
  have hce4 : ∀ i, i < 8 → ce (4 + i) = cd_ct (rg_L G y) (rg_B G y) (8 * k + i) ^^^ cs_er e i := fun i hi => by rw [hceq _ (by omega)]; exact w12 i hi
  have hin : xm_in ce (rg_C G y) (if k + 1 = cd_n (rg_L G y) then 8 else 0) k (rg_X G y) :=
    ⟨by rw [hceq 0 (by omega)]; exact w9, by rw [hceq 1 (by omega)]; exact w10, by rw [hceq 2 (by omega)]; exact w11, hc, by omega, hx, hZ.elim (fun g => Or.inl g.1) (fun g => Or.inr g.1)⟩
  have A := dk_A (F := F) (by omega) hG.2.1 hXb k5 k6 k7 v1 v2 rfl (by omega : k < 4) hT0.2
  have hko2 : ko (rg_C G y) = nI y ↔ (kc = 0 ∨ b_keptOf (rg_C G y) = nI y) := by
    rw [hkoc]
    by_cases z : kc = 0
    · rw [if_pos z]; exact ⟨fun _ => Or.inl z, fun _ => rfl⟩
    · rw [if_neg z]; exact ⟨Or.inr, fun g => g.resolve_left z⟩
  have emin : min (min kc 4 + 1) 4 = min (kc + 1) 4 := by omega
  have lv8 : k + 1 = cd_n (rg_L G y) → ¬ lv = 0 := fun g => by rw [hlv, if_pos g]; decide
  have lv0 : k + 1 ≠ cd_n (rg_L G y) → lv = 0 := fun g => by rw [hlv, if_neg g]
  have hst1 : 8 * rg_X G y + k + 1 ≤ rl_st m n (rg_C G y) := hT0.1
  have hkw : ∀ c', c' ≠ rg_C G y → ∀ i, i < 32 → ar_cp a_kept (8 * (4 * rg_C G y + k)) 8 (fun i => ce (4 + i)) (32 * c' + i) = a_kept (32 * c' + i) := fun c' hne i hi => ar_out _ _ (by omega)
  refine xw_deliver hs (by omega) hq1 (fun P hP => ?_)
  rw [← hce]
  refine xw_comeIn hin (by omega) k2 (by omega) (fun fo z => ?_) (fun fo z P' hP' => ?_) (fun nf z => ?_) (fun nf z P' hP' => ?_)
  · have hnl : k + 1 ≠ cd_n (rg_L G y) := hZ.elim (fun g => absurd g.1 (by omega)) (fun g => g.2)
    rw [emin]
    refine hP (H _ (f_clock, f_buffered, b_frames, a_counts, a_buffer, a_isOpen, a_from, a_to, a_gap, a_tolerance, a_due, b_waits, b_waiting, b_sentCells, (upd b_kept (rg_C G y) (nI (kc + 1))), ko, (upd b_keptMixed (rg_C G y) mv), (upd b_keptTurned (rg_C G y) tv), b_numbers, b_circuits, b_lengths, b_spoiled, b_bytes, a_lastSent, b_headAhead, b_contentAhead, a_isWary, (upd a_queueCount s (nI q0)), (ar_cp b_queueFrame (6 * s) q0 (fun j => b_queueFrame (6 * s + j + 1))), (ar_cp b_queueLast (6 * s) q0 (fun j => b_queueLast (6 * s + j + 1))), (ar_cp b_queueTurned (6 * s) q0 (fun j => b_queueTurned (6 * s + j + 1))), a_inCount, b_boxHead, b_boxBytes) (rl_in ⟨F, m, n, w, rl_u ls (rg_C G y) (8 * rg_X G y + k + 1), rl_u q s q0, G, _, ⟨hFK, hFf⟩, hS, hA, hN, hG, hC, hW, SH, ?_⟩) (fun P' hP' => ⟨fun g => absurd g hq0', fun _ => YW P' (fun _ => hP') (fun g => absurd (lv0 hnl) g) (fun g => absurd (lv0 hnl) g) (fun g => absurd (lv0 hnl) g)⟩))
    exact dk_all hKk hLs hkon hkw (dk_new (by omega) hG.2.1 hXb k3 k5 k6 k7 v1 v2 rfl (by omega) w2 hT0.2 hT0.1 w3 hce4 hqv ⟨fun _ => fo, fun _ => rfl⟩ (fun _ => rfl) hkoc hmv' htv')
  · have hnl : k + 1 = cd_n (rg_L G y) := hZ.elim (fun g => g.2) (fun g => absurd g.1 (by omega))
    have A1 := A.mp fo
    obtain ⟨e', q1, q2⟩ := dk_C (c := rg_C G y) (F := F) (by omega) k5 k7 v2 (by omega) w3 fo.1 A1.1 A1.2 hce4
    have ekc : kc + 1 = cd_n (rg_L G y) := by omega
    rw [ekc] at q1 q2
    have hmv0 : mv = 0 := hmv'.mpr ⟨A1.1.1, hko2.mpr A1.1.2⟩
    have htv0 : tv = 0 ↔ ∀ j, j < cd_n (rg_L G y) → e' j = 64 := by
      rw [htv', hqv, ← q2]
      by_cases z2 : e = 64
      · rw [if_pos z2]; simp [z2]
      · rw [if_neg z2]; simp [z2]
    rw [emin]
    have ekm : min (kc + 1) 4 = cd_n (rg_L G y) := by omega
    rw [ekm]
    by_cases good : ∀ j, j < cd_n (rg_L G y) → e' j = 64
    · have hby := dk_bytes hL27 (fun j hj => (q1 j hj).2) good
      have gy : mv = 0 ∧ tv = 0 ∧ kc + 1 = cd_n (rg_L G y) := ⟨hmv0, htv0.mpr good, ekc⟩
      refine xw_fin_yes (l := rg_L G y) (kc := cd_n (rg_L G y)) hc hs hb hB hL27 hn.1 hn.2.1 pk_us hby.1 (fun P2 hP2 => xw_isRight hc hL27 hL1 hBB pk_us pk_us (fun j hj => (q1 j hj).1) (fun j hj => (q1 j hj).2) (fun _ ck => hP2 ck) (fun g => absurd good g)) (fun hb4 ck => ?_) (fun hb4 ck => ?_)
      · refine hP' (hP (H _ (f_clock, f_buffered, b_frames, (upd a_counts 6 (a_counts 6 + 1)), a_buffer, a_isOpen, a_from, a_to, a_gap, a_tolerance, a_due, b_waits, b_waiting, b_sentCells, (upd b_kept (rg_C G y) 0), ko, (upd b_keptMixed (rg_C G y) 0), (upd b_keptTurned (rg_C G y) 0), b_numbers, b_circuits, b_lengths, b_spoiled, b_bytes, a_lastSent, b_headAhead, b_contentAhead, a_isWary, (upd a_queueCount s (nI q0)), (ar_cp b_queueFrame (6 * s) q0 (fun j => b_queueFrame (6 * s + j + 1))), (ar_cp b_queueLast (6 * s) q0 (fun j => b_queueLast (6 * s + j + 1))), (ar_cp b_queueTurned (6 * s) q0 (fun j => b_queueTurned (6 * s + j + 1))), a_inCount, b_boxHead, b_boxBytes) (rl_in ⟨F, m, n, w, rl_u ls (rg_C G y) (8 * rg_X G y + k + 1), rl_u q s q0, G, _, ⟨hFK, hFf⟩, hS, hA, hN, hG, hC, hW, SH, ?_⟩) (fun P' hP' => ⟨fun g => absurd g hq0', fun _ => YW P' (fun g => absurd g (lv8 hnl)) (fun _ g => absurd gy g) (fun _ _ _ => hP') (fun _ _ g => absurd g (by omega))⟩)))
        rw [ar_uu, ar_uu]
        exact dk_all hKk hLs hkon hkw (dk_0 hst1)
      · refine hP' (hP (H _ (f_clock, f_buffered, b_frames, (upd a_counts 4 (a_counts 4 + 1)), a_buffer, a_isOpen, a_from, a_to, a_gap, a_tolerance, a_due, b_waits, b_waiting, b_sentCells, (upd b_kept (rg_C G y) 0), ko, (upd b_keptMixed (rg_C G y) 0), (upd b_keptTurned (rg_C G y) 0), b_numbers, b_circuits, b_lengths, b_spoiled, b_bytes, a_lastSent, b_headAhead, b_contentAhead, a_isWary, (upd a_queueCount s (nI q0)), (ar_cp b_queueFrame (6 * s) q0 (fun j => b_queueFrame (6 * s + j + 1))), (ar_cp b_queueLast (6 * s) q0 (fun j => b_queueLast (6 * s + j + 1))), (ar_cp b_queueTurned (6 * s) q0 (fun j => b_queueTurned (6 * s + j + 1))), (upd a_inCount s (nI (b + 1))), (upd b_boxHead (4 * s + b) (nI (32 * rg_C G y + rg_L G y))), (ar_cp b_boxBytes (27 * (4 * s + b)) 27 (fun i => b_bytes (27 * rg_P G y + i)))) (rl_in ⟨F, m, n, w, rl_u ls (rg_C G y) (8 * rg_X G y + k + 1), rl_u q s q0, G, _, ⟨hFK, hFf⟩, hS, hA, ?_, hG, hC, hW, SH, ?_⟩) (fun P' hP' => ⟨fun g => absurd g hq0', fun _ => YW P' (fun g => absurd g (lv8 hnl)) (fun _ g => absurd gy g) (fun _ _ g => absurd g (by omega)) (fun _ _ _ => hP')⟩)))
        · exact dn_N hN hs hb4 hB hc hL1 hL27 (fun i hi => by
            show ar_cp a_kept _ 8 _ _ = _
            rw [hby.2 i hi, v7 i hi])
        · rw [ar_uu, ar_uu]
          exact dk_all hKk hLs hkon hkw (dk_0 hst1)
    · have gy : ¬ (mv = 0 ∧ tv = 0 ∧ kc + 1 = cd_n (rg_L G y)) := fun g => good (htv0.mp g.2.1)
      refine xw_fin_no hc (fun P2 hP2 => xw_isRight hc hL27 hL1 hBB pk_us pk_us (fun j hj => (q1 j hj).1) (fun j hj => (q1 j hj).2) (fun g => absurd g good) (fun _ ck => hP2 ck)) (fun ck => ?_)
      refine hP' (hP (H _ (f_clock, f_buffered, b_frames, (upd a_counts 5 (a_counts 5 + 1)), a_buffer, a_isOpen, a_from, a_to, a_gap, a_tolerance, a_due, b_waits, b_waiting, b_sentCells, (upd b_kept (rg_C G y) 0), ko, (upd b_keptMixed (rg_C G y) 0), (upd b_keptTurned (rg_C G y) 0), b_numbers, b_circuits, b_lengths, b_spoiled, b_bytes, a_lastSent, b_headAhead, b_contentAhead, a_isWary, (upd a_queueCount s (nI q0)), (ar_cp b_queueFrame (6 * s) q0 (fun j => b_queueFrame (6 * s + j + 1))), (ar_cp b_queueLast (6 * s) q0 (fun j => b_queueLast (6 * s + j + 1))), (ar_cp b_queueTurned (6 * s) q0 (fun j => b_queueTurned (6 * s + j + 1))), a_inCount, b_boxHead, b_boxBytes) (rl_in ⟨F, m, n, w, rl_u ls (rg_C G y) (8 * rg_X G y + k + 1), rl_u q s q0, G, _, ⟨hFK, hFf⟩, hS, hA, hN, hG, hC, hW, SH, ?_⟩) (fun P' hP' => ⟨fun g => absurd g hq0', fun _ => YW P' (fun g => absurd g (lv8 hnl)) (fun _ _ => hP') (fun _ g => absurd g gy) (fun _ g => absurd g gy)⟩)))
      rw [ar_uu, ar_uu]
      exact dk_all hKk hLs hkon hkw (dk_0 hst1)
  · have hnl : k + 1 ≠ cd_n (rg_L G y) := hZ.elim (fun g => absurd g.1 (by omega)) (fun g => g.2)
    rw [emin]
    refine hP (H _ (f_clock, f_buffered, b_frames, a_counts, a_buffer, a_isOpen, a_from, a_to, a_gap, a_tolerance, a_due, b_waits, b_waiting, b_sentCells, (upd b_kept (rg_C G y) (nI (kc + 1))), ko, (upd b_keptMixed (rg_C G y) mv), (upd b_keptTurned (rg_C G y) tv), b_numbers, b_circuits, b_lengths, b_spoiled, b_bytes, a_lastSent, b_headAhead, b_contentAhead, a_isWary, (upd a_queueCount s (nI q0)), (ar_cp b_queueFrame (6 * s) q0 (fun j => b_queueFrame (6 * s + j + 1))), (ar_cp b_queueLast (6 * s) q0 (fun j => b_queueLast (6 * s + j + 1))), (ar_cp b_queueTurned (6 * s) q0 (fun j => b_queueTurned (6 * s + j + 1))), a_inCount, b_boxHead, b_boxBytes) (rl_in ⟨F, m, n, w, rl_u ls (rg_C G y) (8 * rg_X G y + k + 1), rl_u q s q0, G, _, ⟨hFK, hFf⟩, hS, hA, hN, hG, hC, hW, SH, ?_⟩) (fun P' hP' => ⟨fun g => absurd g hq0', fun _ => YW P' (fun _ => hP') (fun g => absurd (lv0 hnl) g) (fun g => absurd (lv0 hnl) g) (fun g => absurd (lv0 hnl) g)⟩))
    exact dk_all hKk hLs hkon (fun _ _ _ _ => rfl) (dk_new (by omega) hG.2.1 hXb k3 k5 k6 k7 v1 v2 rfl (by omega) w2 hT0.2 hT0.1 w3 hce4 hqv ⟨fun g => absurd g (by decide), fun g => absurd g nf⟩ (fun g => absurd g (by decide)) hkoc hmv' htv')
  · have hnl : k + 1 = cd_n (rg_L G y) := hZ.elim (fun g => g.2) (fun g => absurd g.1 (by omega))
    have gy : ¬ (mv = 0 ∧ tv = 0 ∧ kc + 1 = cd_n (rg_L G y)) := fun g => by
      have g1 := hmv'.mp g.1
      exact nf (A.mpr ⟨⟨g1.1, hko2.mp g1.2⟩, by omega⟩)
    rw [emin]
    refine xw_fin_no hc (fun P2 hP2 => xw_isRight_no (kc := min (kc + 1) 4) hc (by omega) (by omega) pk_us (by rw [pk_us]; decide) (hP2 _)) (fun ck => ?_)
    refine hP' (hP (H _ (f_clock, f_buffered, b_frames, (upd a_counts 5 (a_counts 5 + 1)), a_buffer, a_isOpen, a_from, a_to, a_gap, a_tolerance, a_due, b_waits, b_waiting, b_sentCells, (upd b_kept (rg_C G y) 0), ko, (upd b_keptMixed (rg_C G y) 0), (upd b_keptTurned (rg_C G y) 0), b_numbers, b_circuits, b_lengths, b_spoiled, b_bytes, a_lastSent, b_headAhead, b_contentAhead, a_isWary, (upd a_queueCount s (nI q0)), (ar_cp b_queueFrame (6 * s) q0 (fun j => b_queueFrame (6 * s + j + 1))), (ar_cp b_queueLast (6 * s) q0 (fun j => b_queueLast (6 * s + j + 1))), (ar_cp b_queueTurned (6 * s) q0 (fun j => b_queueTurned (6 * s + j + 1))), a_inCount, b_boxHead, b_boxBytes) (rl_in ⟨F, m, n, w, rl_u ls (rg_C G y) (8 * rg_X G y + k + 1), rl_u q s q0, G, _, ⟨hFK, hFf⟩, hS, hA, hN, hG, hC, hW, SH, ?_⟩) (fun P' hP' => ⟨fun g => absurd g hq0', fun _ => YW P' (fun g => absurd g (lv8 hnl)) (fun _ _ => hP') (fun _ g => absurd g gy) (fun _ g => absurd g gy)⟩)))
    rw [ar_uu, ar_uu]
    exact dk_all hKk hLs hkon (fun _ _ _ _ => rfl) (dk_0 hst1)
end
end
section
def pz_X61 (post : Int32 → SX → Prop) (J : Int32 → Int32 → Int32 → Int32 → (Nat → Int32) → (Nat → Int32) → (Nat → Int32) → (Nat → Int32) → (Nat → Int32) → (Nat → Int32) → (Nat → Int32) → (Nat → Int32) → (Nat → Int32) → (Nat → Int32) → (Nat → Int32) → (Nat → Int32) → (Nat → Int32) → (Nat → Int32) → (Nat → Int32) → (Nat → Int32) → (Nat → Int32) → (Nat → Int32) → (Nat → Int32) → (Nat → Int32) → (Nat → Int32) → (Nat → Int32) → (Nat → Int32) → (Nat → Int32) → (Nat → Int32) → (Nat → Int32) → (Nat → Int32) → (Nat → Int32) → (Nat → Int32) → Prop) (x1 x2 x3 : Int32) (n : Nat) (x4 : Int32) (u : SX) : Prop := match u with
  | (f_buffered, f_clock, f_check, a_isOpen, a_from, a_to, a_gap, a_tolerance, a_due, a_frames, a_frameLength, a_frameBytes, a_nextCell, a_number, a_spoiledNumber, a_buffer, a_cell, a_lastSent, a_ahead, a_which, a_isWary, a_queueCount, a_queue, a_inCount, a_inCircuit, a_inLength, a_inBytes, a_keptCount, a_isSpoiled, a_keptNumber, a_kept, a_counts) => wX_pass_61 post J x1 x2 x3 n x4 f_buffered f_clock f_check a_isOpen a_from a_to a_gap a_tolerance a_due a_frames a_frameLength a_frameBytes a_nextCell a_number a_spoiledNumber a_buffer a_cell a_lastSent a_ahead a_which a_isWary a_queueCount a_queue a_inCount a_inCircuit a_inLength a_inBytes a_keptCount a_isSpoiled a_keptNumber a_kept a_counts
def pz_X40 (post : Int32 → SX → Prop) (J : Int32 → Int32 → Int32 → Int32 → (Nat → Int32) → (Nat → Int32) → (Nat → Int32) → (Nat → Int32) → (Nat → Int32) → (Nat → Int32) → (Nat → Int32) → (Nat → Int32) → (Nat → Int32) → (Nat → Int32) → (Nat → Int32) → (Nat → Int32) → (Nat → Int32) → (Nat → Int32) → (Nat → Int32) → (Nat → Int32) → (Nat → Int32) → (Nat → Int32) → (Nat → Int32) → (Nat → Int32) → (Nat → Int32) → (Nat → Int32) → (Nat → Int32) → (Nat → Int32) → (Nat → Int32) → (Nat → Int32) → (Nat → Int32) → (Nat → Int32) → (Nat → Int32) → Prop) (x1 x2 x3 : Int32) (n : Nat) (x4 : Int32) (u : SX) : Prop := match u with
  | (f_buffered, f_clock, f_check, a_isOpen, a_from, a_to, a_gap, a_tolerance, a_due, a_frames, a_frameLength, a_frameBytes, a_nextCell, a_number, a_spoiledNumber, a_buffer, a_cell, a_lastSent, a_ahead, a_which, a_isWary, a_queueCount, a_queue, a_inCount, a_inCircuit, a_inLength, a_inBytes, a_keptCount, a_isSpoiled, a_keptNumber, a_kept, a_counts) => wX_pass_40 post J x1 x2 x3 n x4 f_buffered f_clock f_check a_isOpen a_from a_to a_gap a_tolerance a_due a_frames a_frameLength a_frameBytes a_nextCell a_number a_spoiledNumber a_buffer a_cell a_lastSent a_ahead a_which a_isWary a_queueCount a_queue a_inCount a_inCircuit a_inLength a_inBytes a_keptCount a_isSpoiled a_keptNumber a_kept a_counts
def pz_X22 (post : Int32 → SX → Prop) (x1 x2 : Int32) (n : Nat) (x3 : Int32) (u : SX) : Prop := match u with
  | (f_buffered, f_clock, f_check, a_isOpen, a_from, a_to, a_gap, a_tolerance, a_due, a_frames, a_frameLength, a_frameBytes, a_nextCell, a_number, a_spoiledNumber, a_buffer, a_cell, a_lastSent, a_ahead, a_which, a_isWary, a_queueCount, a_queue, a_inCount, a_inCircuit, a_inLength, a_inBytes, a_keptCount, a_isSpoiled, a_keptNumber, a_kept, a_counts) => wX_pass_22 post x1 x2 n x3 f_buffered f_clock f_check a_isOpen a_from a_to a_gap a_tolerance a_due a_frames a_frameLength a_frameBytes a_nextCell a_number a_spoiledNumber a_buffer a_cell a_lastSent a_ahead a_which a_isWary a_queueCount a_queue a_inCount a_inCircuit a_inLength a_inBytes a_keptCount a_isSpoiled a_keptNumber a_kept a_counts
def pz_XJ (J : Int32 → Int32 → Int32 → Int32 → (Nat → Int32) → (Nat → Int32) → (Nat → Int32) → (Nat → Int32) → (Nat → Int32) → (Nat → Int32) → (Nat → Int32) → (Nat → Int32) → (Nat → Int32) → (Nat → Int32) → (Nat → Int32) → (Nat → Int32) → (Nat → Int32) → (Nat → Int32) → (Nat → Int32) → (Nat → Int32) → (Nat → Int32) → (Nat → Int32) → (Nat → Int32) → (Nat → Int32) → (Nat → Int32) → (Nat → Int32) → (Nat → Int32) → (Nat → Int32) → (Nat → Int32) → (Nat → Int32) → (Nat → Int32) → (Nat → Int32) → (Nat → Int32) → Prop) (x3 : Int32) (u : SX) : Prop := match u with
  | (f_buffered, f_clock, f_check, a_isOpen, a_from, a_to, a_gap, a_tolerance, a_due, a_frames, a_frameLength, a_frameBytes, a_nextCell, a_number, a_spoiledNumber, a_buffer, a_cell, a_lastSent, a_ahead, a_which, a_isWary, a_queueCount, a_queue, a_inCount, a_inCircuit, a_inLength, a_inBytes, a_keptCount, a_isSpoiled, a_keptNumber, a_kept, a_counts) => J x3 f_buffered f_clock f_check a_isOpen a_from a_to a_gap a_tolerance a_due a_frames a_frameLength a_frameBytes a_nextCell a_number a_spoiledNumber a_buffer a_cell a_lastSent a_ahead a_which a_isWary a_queueCount a_queue a_inCount a_inCircuit a_inLength a_inBytes a_keptCount a_isSpoiled a_keptNumber a_kept a_counts
def pz_XE (post : Int32 → SX → Prop) (x2 : Int32) (u : SX) : Prop := match u with
  | (f_buffered, f_clock, f_check, a_isOpen, a_from, a_to, a_gap, a_tolerance, a_due, a_frames, a_frameLength, a_frameBytes, a_nextCell, a_number, a_spoiledNumber, a_buffer, a_cell, a_lastSent, a_ahead, a_which, a_isWary, a_queueCount, a_queue, a_inCount, a_inCircuit, a_inLength, a_inBytes, a_keptCount, a_isSpoiled, a_keptNumber, a_kept, a_counts) => post (a_counts 4 - x2) (f_buffered, f_clock, f_check, a_isOpen, a_from, a_to, a_gap, a_tolerance, a_due, a_frames, a_frameLength, a_frameBytes, a_nextCell, a_number, a_spoiledNumber, a_buffer, a_cell, a_lastSent, a_ahead, a_which, a_isWary, a_queueCount, a_queue, a_inCount, a_inCircuit, a_inLength, a_inBytes, a_keptCount, a_isSpoiled, a_keptNumber, a_kept, a_counts)
def pz_Y61 (post : Int32 → SY → Prop) (J : Int32 → Int32 → Int32 → Int32 → (Nat → Int32) → (Nat → Int32) → (Nat → Int32) → (Nat → Int32) → (Nat → Int32) → (Nat → Int32) → (Nat → Int32) → (Nat → Int32) → (Nat → Int32) → (Nat → Int32) → (Nat → Int32) → (Nat → Int32) → (Nat → Int32) → (Nat → Int32) → (Nat → Int32) → (Nat → Int32) → (Nat → Int32) → (Nat → Int32) → (Nat → Int32) → (Nat → Int32) → (Nat → Int32) → (Nat → Int32) → (Nat → Int32) → (Nat → Int32) → (Nat → Int32) → (Nat → Int32) → (Nat → Int32) → (Nat → Int32) → (Nat → Int32) → (Nat → Int32) → (Nat → Int32) → Prop) (x1 x2 x3 : Int32) (n : Nat) (x4 : Int32) (u : SY) : Prop := match u with
  | (f_clock, f_buffered, b_frames, a_counts, a_buffer, a_isOpen, a_from, a_to, a_gap, a_tolerance, a_due, b_waits, b_waiting, b_sentCells, b_kept, b_keptOf, b_keptMixed, b_keptTurned, b_numbers, b_circuits, b_lengths, b_spoiled, b_bytes, a_lastSent, b_headAhead, b_contentAhead, a_isWary, a_queueCount, b_queueFrame, b_queueLast, b_queueTurned, a_inCount, b_boxHead, b_boxBytes) => wY_pass_61 post J x1 x2 x3 n x4 f_clock f_buffered b_frames a_counts a_buffer a_isOpen a_from a_to a_gap a_tolerance a_due b_waits b_waiting b_sentCells b_kept b_keptOf b_keptMixed b_keptTurned b_numbers b_circuits b_lengths b_spoiled b_bytes a_lastSent b_headAhead b_contentAhead a_isWary a_queueCount b_queueFrame b_queueLast b_queueTurned a_inCount b_boxHead b_boxBytes
def pz_Y40 (post : Int32 → SY → Prop) (J : Int32 → Int32 → Int32 → Int32 → (Nat → Int32) → (Nat → Int32) → (Nat → Int32) → (Nat → Int32) → (Nat → Int32) → (Nat → Int32) → (Nat → Int32) → (Nat → Int32) → (Nat → Int32) → (Nat → Int32) → (Nat → Int32) → (Nat → Int32) → (Nat → Int32) → (Nat → Int32) → (Nat → Int32) → (Nat → Int32) → (Nat → Int32) → (Nat → Int32) → (Nat → Int32) → (Nat → Int32) → (Nat → Int32) → (Nat → Int32) → (Nat → Int32) → (Nat → Int32) → (Nat → Int32) → (Nat → Int32) → (Nat → Int32) → (Nat → Int32) → (Nat → Int32) → (Nat → Int32) → (Nat → Int32) → Prop) (x1 x2 x3 : Int32) (n : Nat) (x4 : Int32) (u : SY) : Prop := match u with
  | (f_clock, f_buffered, b_frames, a_counts, a_buffer, a_isOpen, a_from, a_to, a_gap, a_tolerance, a_due, b_waits, b_waiting, b_sentCells, b_kept, b_keptOf, b_keptMixed, b_keptTurned, b_numbers, b_circuits, b_lengths, b_spoiled, b_bytes, a_lastSent, b_headAhead, b_contentAhead, a_isWary, a_queueCount, b_queueFrame, b_queueLast, b_queueTurned, a_inCount, b_boxHead, b_boxBytes) => wY_pass_40 post J x1 x2 x3 n x4 f_clock f_buffered b_frames a_counts a_buffer a_isOpen a_from a_to a_gap a_tolerance a_due b_waits b_waiting b_sentCells b_kept b_keptOf b_keptMixed b_keptTurned b_numbers b_circuits b_lengths b_spoiled b_bytes a_lastSent b_headAhead b_contentAhead a_isWary a_queueCount b_queueFrame b_queueLast b_queueTurned a_inCount b_boxHead b_boxBytes
def pz_Y22 (post : Int32 → SY → Prop) (x1 x2 : Int32) (n : Nat) (x3 : Int32) (u : SY) : Prop := match u with
  | (f_clock, f_buffered, b_frames, a_counts, a_buffer, a_isOpen, a_from, a_to, a_gap, a_tolerance, a_due, b_waits, b_waiting, b_sentCells, b_kept, b_keptOf, b_keptMixed, b_keptTurned, b_numbers, b_circuits, b_lengths, b_spoiled, b_bytes, a_lastSent, b_headAhead, b_contentAhead, a_isWary, a_queueCount, b_queueFrame, b_queueLast, b_queueTurned, a_inCount, b_boxHead, b_boxBytes) => wY_pass_22 post x1 x2 n x3 f_clock f_buffered b_frames a_counts a_buffer a_isOpen a_from a_to a_gap a_tolerance a_due b_waits b_waiting b_sentCells b_kept b_keptOf b_keptMixed b_keptTurned b_numbers b_circuits b_lengths b_spoiled b_bytes a_lastSent b_headAhead b_contentAhead a_isWary a_queueCount b_queueFrame b_queueLast b_queueTurned a_inCount b_boxHead b_boxBytes
def pz_YJ (J : Int32 → Int32 → Int32 → Int32 → (Nat → Int32) → (Nat → Int32) → (Nat → Int32) → (Nat → Int32) → (Nat → Int32) → (Nat → Int32) → (Nat → Int32) → (Nat → Int32) → (Nat → Int32) → (Nat → Int32) → (Nat → Int32) → (Nat → Int32) → (Nat → Int32) → (Nat → Int32) → (Nat → Int32) → (Nat → Int32) → (Nat → Int32) → (Nat → Int32) → (Nat → Int32) → (Nat → Int32) → (Nat → Int32) → (Nat → Int32) → (Nat → Int32) → (Nat → Int32) → (Nat → Int32) → (Nat → Int32) → (Nat → Int32) → (Nat → Int32) → (Nat → Int32) → (Nat → Int32) → (Nat → Int32) → Prop) (x3 : Int32) (u : SY) : Prop := match u with
  | (f_clock, f_buffered, b_frames, a_counts, a_buffer, a_isOpen, a_from, a_to, a_gap, a_tolerance, a_due, b_waits, b_waiting, b_sentCells, b_kept, b_keptOf, b_keptMixed, b_keptTurned, b_numbers, b_circuits, b_lengths, b_spoiled, b_bytes, a_lastSent, b_headAhead, b_contentAhead, a_isWary, a_queueCount, b_queueFrame, b_queueLast, b_queueTurned, a_inCount, b_boxHead, b_boxBytes) => J x3 f_clock f_buffered b_frames a_counts a_buffer a_isOpen a_from a_to a_gap a_tolerance a_due b_waits b_waiting b_sentCells b_kept b_keptOf b_keptMixed b_keptTurned b_numbers b_circuits b_lengths b_spoiled b_bytes a_lastSent b_headAhead b_contentAhead a_isWary a_queueCount b_queueFrame b_queueLast b_queueTurned a_inCount b_boxHead b_boxBytes
def pz_YE (post : Int32 → SY → Prop) (x2 : Int32) (u : SY) : Prop := match u with
  | (f_clock, f_buffered, b_frames, a_counts, a_buffer, a_isOpen, a_from, a_to, a_gap, a_tolerance, a_due, b_waits, b_waiting, b_sentCells, b_kept, b_keptOf, b_keptMixed, b_keptTurned, b_numbers, b_circuits, b_lengths, b_spoiled, b_bytes, a_lastSent, b_headAhead, b_contentAhead, a_isWary, a_queueCount, b_queueFrame, b_queueLast, b_queueTurned, a_inCount, b_boxHead, b_boxBytes) => post (a_counts 4 - x2) (f_clock, f_buffered, b_frames, a_counts, a_buffer, a_isOpen, a_from, a_to, a_gap, a_tolerance, a_due, b_waits, b_waiting, b_sentCells, b_kept, b_keptOf, b_keptMixed, b_keptTurned, b_numbers, b_circuits, b_lengths, b_spoiled, b_bytes, a_lastSent, b_headAhead, b_contentAhead, a_isWary, a_queueCount, b_queueFrame, b_queueLast, b_queueTurned, a_inCount, b_boxHead, b_boxBytes)
theorem ps_send {K : Nat} (hK : K ≤ 2560) {post : Int32 → SX → Prop} {J : Int32 → Int32 → Int32 → Int32 → (Nat → Int32) → (Nat → Int32) → (Nat → Int32) → (Nat → Int32) → (Nat → Int32) → (Nat → Int32) → (Nat → Int32) → (Nat → Int32) → (Nat → Int32) → (Nat → Int32) → (Nat → Int32) → (Nat → Int32) → (Nat → Int32) → (Nat → Int32) → (Nat → Int32) → (Nat → Int32) → (Nat → Int32) → (Nat → Int32) → (Nat → Int32) → (Nat → Int32) → (Nat → Int32) → (Nat → Int32) → (Nat → Int32) → (Nat → Int32) → (Nat → Int32) → (Nat → Int32) → (Nat → Int32) → (Nat → Int32) → (Nat → Int32) → Prop} {x1 x2 x3 : Int32} : ∀ (d i : Nat), i + d = 4 → ∀ (u : SX) (v : SY), i_Rel K u v →
    (∀ u' v', i_Rel K u' v' → (∀ (postY : Int32 → SY → Prop) (JY : Int32 → Int32 → Int32 → Int32 → (Nat → Int32) → (Nat → Int32) → (Nat → Int32) → (Nat → Int32) → (Nat → Int32) → (Nat → Int32) → (Nat → Int32) → (Nat → Int32) → (Nat → Int32) → (Nat → Int32) → (Nat → Int32) → (Nat → Int32) → (Nat → Int32) → (Nat → Int32) → (Nat → Int32) → (Nat → Int32) → (Nat → Int32) → (Nat → Int32) → (Nat → Int32) → (Nat → Int32) → (Nat → Int32) → (Nat → Int32) → (Nat → Int32) → (Nat → Int32) → (Nat → Int32) → (Nat → Int32) → (Nat → Int32) → (Nat → Int32) → (Nat → Int32) → (Nat → Int32) → (Nat → Int32) → Prop) (y1 y2 y3 : Int32), (∃ n, pz_Y61 postY JY y1 y2 y3 n 0 v') → pz_Y40 postY JY y1 y2 y3 (d + 1) (nI i) v) → ∃ n, pz_X61 post J x1 x2 x3 n 0 u') → pz_X40 post J x1 x2 x3 (d + 1) (nI i) u := by
  intro d
  induction d with
  | zero =>
    intro i hi u v I
    obtain rfl : i = 4 := by omega
    refine rl_el (P := fun u v => (∀ u' v', i_Rel K u' v' → (∀ (postY : Int32 → SY → Prop) (JY : Int32 → Int32 → Int32 → Int32 → (Nat → Int32) → (Nat → Int32) → (Nat → Int32) → (Nat → Int32) → (Nat → Int32) → (Nat → Int32) → (Nat → Int32) → (Nat → Int32) → (Nat → Int32) → (Nat → Int32) → (Nat → Int32) → (Nat → Int32) → (Nat → Int32) → (Nat → Int32) → (Nat → Int32) → (Nat → Int32) → (Nat → Int32) → (Nat → Int32) → (Nat → Int32) → (Nat → Int32) → (Nat → Int32) → (Nat → Int32) → (Nat → Int32) → (Nat → Int32) → (Nat → Int32) → (Nat → Int32) → (Nat → Int32) → (Nat → Int32) → (Nat → Int32) → (Nat → Int32) → (Nat → Int32) → Prop) (y1 y2 y3 : Int32), (∃ n, pz_Y61 postY JY y1 y2 y3 n 0 v') → pz_Y40 postY JY y1 y2 y3 (0 + 1) (nI 4) v) → ∃ n, pz_X61 post J x1 x2 x3 n 0 u') → pz_X40 post J x1 x2 x3 (0 + 1) (nI 4) u) ?_ I
    intro f_buffered f_clock f_check a_isOpen a_from a_to a_gap a_tolerance a_due a_frames a_frameLength a_frameBytes a_nextCell a_number a_spoiledNumber a_buffer a_cell a_lastSent a_ahead a_which a_isWary a_queueCount a_queue a_inCount a_inCircuit a_inLength a_inBytes a_keptCount a_isSpoiled a_keptNumber a_kept a_counts b_frames b_waits b_waiting b_sentCells b_kept b_keptOf b_keptMixed b_keptTurned b_numbers b_circuits b_lengths b_spoiled b_bytes b_headAhead b_contentAhead b_queueFrame b_queueLast b_queueTurned b_boxHead b_boxBytes
    intro hE H
    exact br_t (nI_le (a := 4) (b := 4) (by omega) (by omega)) (H _ _ (rl_in hE) (fun postY JY y1 y2 y3 h => br_t (nI_le (a := 4) (b := 4) (by omega) (by omega)) h))
  | succ d ih =>
    intro i hi u v I
    refine rl_el (P := fun u v => (∀ u' v', i_Rel K u' v' → (∀ (postY : Int32 → SY → Prop) (JY : Int32 → Int32 → Int32 → Int32 → (Nat → Int32) → (Nat → Int32) → (Nat → Int32) → (Nat → Int32) → (Nat → Int32) → (Nat → Int32) → (Nat → Int32) → (Nat → Int32) → (Nat → Int32) → (Nat → Int32) → (Nat → Int32) → (Nat → Int32) → (Nat → Int32) → (Nat → Int32) → (Nat → Int32) → (Nat → Int32) → (Nat → Int32) → (Nat → Int32) → (Nat → Int32) → (Nat → Int32) → (Nat → Int32) → (Nat → Int32) → (Nat → Int32) → (Nat → Int32) → (Nat → Int32) → (Nat → Int32) → (Nat → Int32) → (Nat → Int32) → (Nat → Int32) → (Nat → Int32) → (Nat → Int32) → Prop) (y1 y2 y3 : Int32), (∃ n, pz_Y61 postY JY y1 y2 y3 n 0 v') → pz_Y40 postY JY y1 y2 y3 (d + 1 + 1) (nI i) v) → ∃ n, pz_X61 post J x1 x2 x3 n 0 u') → pz_X40 post J x1 x2 x3 (d + 1 + 1) (nI i) u) ?_ I
    intro f_buffered f_clock f_check a_isOpen a_from a_to a_gap a_tolerance a_due a_frames a_frameLength a_frameBytes a_nextCell a_number a_spoiledNumber a_buffer a_cell a_lastSent a_ahead a_which a_isWary a_queueCount a_queue a_inCount a_inCircuit a_inLength a_inBytes a_keptCount a_isSpoiled a_keptNumber a_kept a_counts b_frames b_waits b_waiting b_sentCells b_kept b_keptOf b_keptMixed b_keptTurned b_numbers b_circuits b_lengths b_spoiled b_bytes b_headAhead b_contentAhead b_queueFrame b_queueLast b_queueTurned b_boxHead b_boxBytes
    intro hE H
    have n4 : ¬ (4 : Int32) ≤ nI i := nI_ge (b := 4) (by omega) (by omega)
    refine br_f n4 (sn_both hK hE (by omega) (fun u1 v1 hR hY => ?_))
    obtain ⟨f_buffered1, f_clock1, f_check1, a_isOpen1, a_from1, a_to1, a_gap1, a_tolerance1, a_due1, a_frames1, a_frameLength1, a_frameBytes1, a_nextCell1, a_number1, a_spoiledNumber1, a_buffer1, a_cell1, a_lastSent1, a_ahead1, a_which1, a_isWary1, a_queueCount1, a_queue1, a_inCount1, a_inCircuit1, a_inLength1, a_inBytes1, a_keptCount1, a_isSpoiled1, a_keptNumber1, a_kept1, a_counts1⟩ := u1
    refine nm_r (nI_1 i) (ih (i + 1) (by omega) _ v1 hR (fun u' v' hR' hY' => H u' v' hR' (fun postY JY y1 y2 y3 h => ?_)))
    obtain ⟨f_clock2, f_buffered2, b_frames2, a_counts2, a_buffer2, a_isOpen2, a_from2, a_to2, a_gap2, a_tolerance2, a_due2, b_waits2, b_waiting2, b_sentCells2, b_kept2, b_keptOf2, b_keptMixed2, b_keptTurned2, b_numbers2, b_circuits2, b_lengths2, b_spoiled2, b_bytes2, a_lastSent2, b_headAhead2, b_contentAhead2, a_isWary2, a_queueCount2, b_queueFrame2, b_queueLast2, b_queueTurned2, a_inCount2, b_boxHead2, b_boxBytes2⟩ := v1
    exact br_f n4 (hY _ (nm_r (nI_1 i) (hY' postY JY y1 y2 y3 h)))
theorem ps_del {K : Nat} (hK : K ≤ 2560) {post : Int32 → SX → Prop} {J : Int32 → Int32 → Int32 → Int32 → (Nat → Int32) → (Nat → Int32) → (Nat → Int32) → (Nat → Int32) → (Nat → Int32) → (Nat → Int32) → (Nat → Int32) → (Nat → Int32) → (Nat → Int32) → (Nat → Int32) → (Nat → Int32) → (Nat → Int32) → (Nat → Int32) → (Nat → Int32) → (Nat → Int32) → (Nat → Int32) → (Nat → Int32) → (Nat → Int32) → (Nat → Int32) → (Nat → Int32) → (Nat → Int32) → (Nat → Int32) → (Nat → Int32) → (Nat → Int32) → (Nat → Int32) → (Nat → Int32) → (Nat → Int32) → (Nat → Int32) → (Nat → Int32) → Prop} {x1 x2 x3 : Int32} : ∀ (d i : Nat), i + d = 4 → ∀ (u : SX) (v : SY), i_Rel K u v →
    (∀ u' v', i_Rel K u' v' → (∀ (postY : Int32 → SY → Prop) (JY : Int32 → Int32 → Int32 → Int32 → (Nat → Int32) → (Nat → Int32) → (Nat → Int32) → (Nat → Int32) → (Nat → Int32) → (Nat → Int32) → (Nat → Int32) → (Nat → Int32) → (Nat → Int32) → (Nat → Int32) → (Nat → Int32) → (Nat → Int32) → (Nat → Int32) → (Nat → Int32) → (Nat → Int32) → (Nat → Int32) → (Nat → Int32) → (Nat → Int32) → (Nat → Int32) → (Nat → Int32) → (Nat → Int32) → (Nat → Int32) → (Nat → Int32) → (Nat → Int32) → (Nat → Int32) → (Nat → Int32) → (Nat → Int32) → (Nat → Int32) → (Nat → Int32) → (Nat → Int32) → (Nat → Int32) → Prop) (y1 y2 y3 : Int32), pz_YJ JY (y3 + 1) v' → pz_Y61 postY JY y1 y2 y3 (d + 1) (nI i) v) → pz_XJ J (x3 + 1) u') → pz_X61 post J x1 x2 x3 (d + 1) (nI i) u := by
  intro d
  induction d with
  | zero =>
    intro i hi u v I
    obtain rfl : i = 4 := by omega
    refine rl_el (P := fun u v => (∀ u' v', i_Rel K u' v' → (∀ (postY : Int32 → SY → Prop) (JY : Int32 → Int32 → Int32 → Int32 → (Nat → Int32) → (Nat → Int32) → (Nat → Int32) → (Nat → Int32) → (Nat → Int32) → (Nat → Int32) → (Nat → Int32) → (Nat → Int32) → (Nat → Int32) → (Nat → Int32) → (Nat → Int32) → (Nat → Int32) → (Nat → Int32) → (Nat → Int32) → (Nat → Int32) → (Nat → Int32) → (Nat → Int32) → (Nat → Int32) → (Nat → Int32) → (Nat → Int32) → (Nat → Int32) → (Nat → Int32) → (Nat → Int32) → (Nat → Int32) → (Nat → Int32) → (Nat → Int32) → (Nat → Int32) → (Nat → Int32) → (Nat → Int32) → (Nat → Int32) → (Nat → Int32) → Prop) (y1 y2 y3 : Int32), pz_YJ JY (y3 + 1) v' → pz_Y61 postY JY y1 y2 y3 (0 + 1) (nI 4) v) → pz_XJ J (x3 + 1) u') → pz_X61 post J x1 x2 x3 (0 + 1) (nI 4) u) ?_ I
    intro f_buffered f_clock f_check a_isOpen a_from a_to a_gap a_tolerance a_due a_frames a_frameLength a_frameBytes a_nextCell a_number a_spoiledNumber a_buffer a_cell a_lastSent a_ahead a_which a_isWary a_queueCount a_queue a_inCount a_inCircuit a_inLength a_inBytes a_keptCount a_isSpoiled a_keptNumber a_kept a_counts b_frames b_waits b_waiting b_sentCells b_kept b_keptOf b_keptMixed b_keptTurned b_numbers b_circuits b_lengths b_spoiled b_bytes b_headAhead b_contentAhead b_queueFrame b_queueLast b_queueTurned b_boxHead b_boxBytes
    intro hE H
    exact br_t (nI_le (a := 4) (b := 4) (by omega) (by omega)) (nm_e (H _ _ (rl_in hE) (fun postY JY y1 y2 y3 h => br_t (nI_le (a := 4) (b := 4) (by omega) (by omega)) (nm_e h))))
  | succ d ih =>
    intro i hi u v I
    refine rl_el (P := fun u v => (∀ u' v', i_Rel K u' v' → (∀ (postY : Int32 → SY → Prop) (JY : Int32 → Int32 → Int32 → Int32 → (Nat → Int32) → (Nat → Int32) → (Nat → Int32) → (Nat → Int32) → (Nat → Int32) → (Nat → Int32) → (Nat → Int32) → (Nat → Int32) → (Nat → Int32) → (Nat → Int32) → (Nat → Int32) → (Nat → Int32) → (Nat → Int32) → (Nat → Int32) → (Nat → Int32) → (Nat → Int32) → (Nat → Int32) → (Nat → Int32) → (Nat → Int32) → (Nat → Int32) → (Nat → Int32) → (Nat → Int32) → (Nat → Int32) → (Nat → Int32) → (Nat → Int32) → (Nat → Int32) → (Nat → Int32) → (Nat → Int32) → (Nat → Int32) → (Nat → Int32) → (Nat → Int32) → Prop) (y1 y2 y3 : Int32), pz_YJ JY (y3 + 1) v' → pz_Y61 postY JY y1 y2 y3 (d + 1 + 1) (nI i) v) → pz_XJ J (x3 + 1) u') → pz_X61 post J x1 x2 x3 (d + 1 + 1) (nI i) u) ?_ I
    intro f_buffered f_clock f_check a_isOpen a_from a_to a_gap a_tolerance a_due a_frames a_frameLength a_frameBytes a_nextCell a_number a_spoiledNumber a_buffer a_cell a_lastSent a_ahead a_which a_isWary a_queueCount a_queue a_inCount a_inCircuit a_inLength a_inBytes a_keptCount a_isSpoiled a_keptNumber a_kept a_counts b_frames b_waits b_waiting b_sentCells b_kept b_keptOf b_keptMixed b_keptTurned b_numbers b_circuits b_lengths b_spoiled b_bytes b_headAhead b_contentAhead b_queueFrame b_queueLast b_queueTurned b_boxHead b_boxBytes
    intro hE H
    have n4 : ¬ (4 : Int32) ≤ nI i := nI_ge (b := 4) (by omega) (by omega)
    have ei : (nI i).toNatClampNeg = i := nl_cl (by omega)
    refine br_f n4 (dl_both hK hE (s := i) (by omega) (fun u1 v1 hR hY => ?_))
    obtain ⟨f_buffered1, f_clock1, f_check1, a_isOpen1, a_from1, a_to1, a_gap1, a_tolerance1, a_due1, a_frames1, a_frameLength1, a_frameBytes1, a_nextCell1, a_number1, a_spoiledNumber1, a_buffer1, a_cell1, a_lastSent1, a_ahead1, a_which1, a_isWary1, a_queueCount1, a_queue1, a_inCount1, a_inCircuit1, a_inLength1, a_inBytes1, a_keptCount1, a_isSpoiled1, a_keptNumber1, a_kept1, a_counts1⟩ := u1
    refine nm_r (nI_1 i) (ih (i + 1) (by omega) _ v1 hR (fun u' v' hR' hY' => H u' v' hR' (fun postY JY y1 y2 y3 h => ?_)))
    obtain ⟨f_clock2, f_buffered2, b_frames2, a_counts2, a_buffer2, a_isOpen2, a_from2, a_to2, a_gap2, a_tolerance2, a_due2, b_waits2, b_waiting2, b_sentCells2, b_kept2, b_keptOf2, b_keptMixed2, b_keptTurned2, b_numbers2, b_circuits2, b_lengths2, b_spoiled2, b_bytes2, a_lastSent2, b_headAhead2, b_contentAhead2, a_isWary2, a_queueCount2, b_queueFrame2, b_queueLast2, b_queueTurned2, a_inCount2, b_boxHead2, b_boxBytes2⟩ := v1
    refine br_f n4 ⟨vp_in_nI (by omega) (by decide), ?_⟩
    rw [ei]
    have Z := hY (fun u => match u with | (f_clock, f_buffered, b_frames, a_counts, a_buffer, a_isOpen, a_from, a_to, a_gap, a_tolerance, a_due, b_waits, b_waiting, b_sentCells, b_kept, b_keptOf, b_keptMixed, b_keptTurned, b_numbers, b_circuits, b_lengths, b_spoiled, b_bytes, a_lastSent, b_headAhead, b_contentAhead, a_isWary, a_queueCount, b_queueFrame, b_queueLast, b_queueTurned, a_inCount, b_boxHead, b_boxBytes) => ∀ x : Int32, x = nI i + 1 → wY_pass_61 postY JY y1 y2 y3 (d + 1) x f_clock f_buffered b_frames a_counts a_buffer a_isOpen a_from a_to a_gap a_tolerance a_due b_waits b_waiting b_sentCells b_kept b_keptOf b_keptMixed b_keptTurned b_numbers b_circuits b_lengths b_spoiled b_bytes a_lastSent b_headAhead b_contentAhead a_isWary a_queueCount b_queueFrame b_queueLast b_queueTurned a_inCount b_boxHead b_boxBytes) (nm_r (nI_1 i) (hY' postY JY y1 y2 y3 h))
    exact ⟨Z.1, Z.2⟩
theorem ps_tick {K : Nat} (hK : K ≤ 2560) {post : Int32 → SX → Prop} {x2 : Int32} {T : Nat} (hT : T ≤ 200) : ∀ (d i : Nat), i + d = T → ∀ (u : SX) (v : SY), i_Rel K u v →
    (∀ u' v', i_Rel K u' v' → (∀ (postY : Int32 → SY → Prop) (y2 : Int32), pz_YE postY y2 v' → pz_Y22 postY (nI T) y2 (d + 1) (nI i) v) → pz_XE post x2 u') → pz_X22 post (nI T) x2 (d + 1) (nI i) u := by
  intro d
  induction d with
  | zero =>
    intro i hi u v I
    obtain rfl : i = T := by omega
    refine rl_el (P := fun u v => (∀ u' v', i_Rel K u' v' → (∀ (postY : Int32 → SY → Prop) (y2 : Int32), pz_YE postY y2 v' → pz_Y22 postY (nI i) y2 (0 + 1) (nI i) v) → pz_XE post x2 u') → pz_X22 post (nI i) x2 (0 + 1) (nI i) u) ?_ I
    intro f_buffered f_clock f_check a_isOpen a_from a_to a_gap a_tolerance a_due a_frames a_frameLength a_frameBytes a_nextCell a_number a_spoiledNumber a_buffer a_cell a_lastSent a_ahead a_which a_isWary a_queueCount a_queue a_inCount a_inCircuit a_inLength a_inBytes a_keptCount a_isSpoiled a_keptNumber a_kept a_counts b_frames b_waits b_waiting b_sentCells b_kept b_keptOf b_keptMixed b_keptTurned b_numbers b_circuits b_lengths b_spoiled b_bytes b_headAhead b_contentAhead b_queueFrame b_queueLast b_queueTurned b_boxHead b_boxBytes
    intro hE H
    exact br_t (nI_le (Nat.le_refl _) (by omega)) (H _ _ (rl_in hE) (fun postY y2 h => br_t (nI_le (Nat.le_refl _) (by omega)) h))
  | succ d ih =>
    intro i hi u v I
    refine rl_el (P := fun u v => (∀ u' v', i_Rel K u' v' → (∀ (postY : Int32 → SY → Prop) (y2 : Int32), pz_YE postY y2 v' → pz_Y22 postY (nI T) y2 (d + 1 + 1) (nI i) v) → pz_XE post x2 u') → pz_X22 post (nI T) x2 (d + 1 + 1) (nI i) u) ?_ I
    intro f_buffered f_clock f_check a_isOpen a_from a_to a_gap a_tolerance a_due a_frames a_frameLength a_frameBytes a_nextCell a_number a_spoiledNumber a_buffer a_cell a_lastSent a_ahead a_which a_isWary a_queueCount a_queue a_inCount a_inCircuit a_inLength a_inBytes a_keptCount a_isSpoiled a_keptNumber a_kept a_counts b_frames b_waits b_waiting b_sentCells b_kept b_keptOf b_keptMixed b_keptTurned b_numbers b_circuits b_lengths b_spoiled b_bytes b_headAhead b_contentAhead b_queueFrame b_queueLast b_queueTurned b_boxHead b_boxBytes
    intro hE H
    have nT : ¬ nI T ≤ nI i := nI_ge (by omega) (by omega)
    have hE' : rl_E K f_buffered (f_clock + 1) f_check a_isOpen a_from a_to a_gap a_tolerance a_due a_frames a_frameLength a_frameBytes a_nextCell a_number a_spoiledNumber a_buffer a_cell a_lastSent a_ahead a_which a_isWary a_queueCount a_queue a_inCount a_inCircuit a_inLength a_inBytes a_keptCount a_isSpoiled a_keptNumber a_kept a_counts b_frames b_waits b_waiting b_sentCells b_kept b_keptOf b_keptMixed b_keptTurned b_numbers b_circuits b_lengths b_spoiled b_bytes b_headAhead b_contentAhead b_queueFrame b_queueLast b_queueTurned b_boxHead b_boxBytes := hE
    refine br_f nT (nm_e ⟨5, ?_⟩)
    refine ps_send hK 4 0 rfl _ _ (rl_in hE') (fun u1 v1 hR1 hY1 => ⟨5, ?_⟩)
    refine ps_del hK 4 0 rfl u1 v1 hR1 (fun u2 v2 hR2 hY2 => ?_)
    have Z := ih (i + 1) (by omega) u2 v2 hR2 (fun u' v' hR' hY' => H u' v' hR' (fun postY y2 h => br_f nT (nm_e ⟨5, hY1 postY _ _ _ _ ⟨5, hY2 postY _ _ _ _ ?_⟩⟩)))
    · obtain ⟨f_buffered1, f_clock1, f_check1, a_isOpen1, a_from1, a_to1, a_gap1, a_tolerance1, a_due1, a_frames1, a_frameLength1, a_frameBytes1, a_nextCell1, a_number1, a_spoiledNumber1, a_buffer1, a_cell1, a_lastSent1, a_ahead1, a_which1, a_isWary1, a_queueCount1, a_queue1, a_inCount1, a_inCircuit1, a_inLength1, a_inBytes1, a_keptCount1, a_isSpoiled1, a_keptNumber1, a_kept1, a_counts1⟩ := u2
      show wX_pass_22 post (nI T) x2 (d + 1) (nI i + 1) _ _ _ _ _ _ _ _ _ _ _ _ _ _ _ _ _ _ _ _ _ _ _ _ _ _ _ _ _ _ _ _
      rw [nI_1]
      exact Z
    · have Z2 := hY' postY y2 h
      obtain ⟨f_clock2, f_buffered2, b_frames2, a_counts2, a_buffer2, a_isOpen2, a_from2, a_to2, a_gap2, a_tolerance2, a_due2, b_waits2, b_waiting2, b_sentCells2, b_kept2, b_keptOf2, b_keptMixed2, b_keptTurned2, b_numbers2, b_circuits2, b_lengths2, b_spoiled2, b_bytes2, a_lastSent2, b_headAhead2, b_contentAhead2, a_isWary2, a_queueCount2, b_queueFrame2, b_queueLast2, b_queueTurned2, a_inCount2, b_boxHead2, b_boxBytes2⟩ := v2
      show wY_pass_22 postY (nI T) y2 (d + 1) (nI i + 1) _ _ _ _ _ _ _ _ _ _ _ _ _ _ _ _ _ _ _ _ _ _ _ _ _ _ _ _ _ _ _ _ _ _
      rw [nI_1]
      exact Z2
theorem i_vc_pass {k : Nat} {u : SX} {v : SY} (I : i_Rel k u v) (hk : k + 5 ≤ 2560) (v1 : Int32) : wpX_pass (fun r u' => wpY_pass (fun r' v' => r' = r ∧ i_Rel (k + 5) u' v') v v1) u v1 := by
  refine rl_el (P := fun u v => wpX_pass (fun r u' => wpY_pass (fun r' v' => r' = r ∧ i_Rel (k + 5) u' v') v v1) u v1) ?_ I
  intro f_buffered f_clock f_check a_isOpen a_from a_to a_gap a_tolerance a_due a_frames a_frameLength a_frameBytes a_nextCell a_number a_spoiledNumber a_buffer a_cell a_lastSent a_ahead a_which a_isWary a_queueCount a_queue a_inCount a_inCircuit a_inLength a_inBytes a_keptCount a_isSpoiled a_keptNumber a_kept a_counts b_frames b_waits b_waiting b_sentCells b_kept b_keptOf b_keptMixed b_keptTurned b_numbers b_circuits b_lengths b_spoiled b_bytes b_headAhead b_contentAhead b_queueFrame b_queueLast b_queueTurned b_boxHead b_boxBytes
  intro hE
  have hR := rl_in hE
  by_cases h0 : v1 < 0
  · exact br_t h0 (br_t h0 ⟨rfl, i_up hR⟩)
  by_cases h2 : v1 ≤ 200
  · obtain ⟨T, hT, rfl⟩ := nI_of2 (M := 200) (n := 200) (by decide) h0 h2
    refine br_f h0 (br_t h2 (nm_e ⟨T + 1, ?_⟩))
    show pz_X22 (fun r u' => wpY_pass (fun r' v' => r' = r ∧ i_Rel (k + 5) u' v') (f_clock, f_buffered, b_frames, a_counts, a_buffer, a_isOpen, a_from, a_to, a_gap, a_tolerance, a_due, b_waits, b_waiting, b_sentCells, b_kept, b_keptOf, b_keptMixed, b_keptTurned, b_numbers, b_circuits, b_lengths, b_spoiled, b_bytes, a_lastSent, b_headAhead, b_contentAhead, a_isWary, a_queueCount, b_queueFrame, b_queueLast, b_queueTurned, a_inCount, b_boxHead, b_boxBytes) (nI T)) (nI T) (a_counts 4) (T + 1) (nI 0) (f_buffered, f_clock, f_check, a_isOpen, a_from, a_to, a_gap, a_tolerance, a_due, a_frames, a_frameLength, a_frameBytes, a_nextCell, a_number, a_spoiledNumber, a_buffer, a_cell, a_lastSent, a_ahead, a_which, a_isWary, a_queueCount, a_queue, a_inCount, a_inCircuit, a_inLength, a_inBytes, a_keptCount, a_isSpoiled, a_keptNumber, a_kept, a_counts)
    refine ps_tick (K := k) (by omega) hT T 0 (by omega) _ _ hR (fun u' v' hR' hY' => ?_)
    refine rl_el (P := fun u' v' => (∀ (postY : Int32 → SY → Prop) (y2 : Int32), pz_YE postY y2 v' → pz_Y22 postY (nI T) y2 (T + 1) (nI 0) (f_clock, f_buffered, b_frames, a_counts, a_buffer, a_isOpen, a_from, a_to, a_gap, a_tolerance, a_due, b_waits, b_waiting, b_sentCells, b_kept, b_keptOf, b_keptMixed, b_keptTurned, b_numbers, b_circuits, b_lengths, b_spoiled, b_bytes, a_lastSent, b_headAhead, b_contentAhead, a_isWary, a_queueCount, b_queueFrame, b_queueLast, b_queueTurned, a_inCount, b_boxHead, b_boxBytes)) → pz_XE (fun r u' => wpY_pass (fun r' v' => r' = r ∧ i_Rel (k + 5) u' v') (f_clock, f_buffered, b_frames, a_counts, a_buffer, a_isOpen, a_from, a_to, a_gap, a_tolerance, a_due, b_waits, b_waiting, b_sentCells, b_kept, b_keptOf, b_keptMixed, b_keptTurned, b_numbers, b_circuits, b_lengths, b_spoiled, b_bytes, a_lastSent, b_headAhead, b_contentAhead, a_isWary, a_queueCount, b_queueFrame, b_queueLast, b_queueTurned, a_inCount, b_boxHead, b_boxBytes) (nI T)) (a_counts 4) u') ?_ hR' hY'
    intro f_buffered1 f_clock1 f_check1 a_isOpen1 a_from1 a_to1 a_gap1 a_tolerance1 a_due1 a_frames1 a_frameLength1 a_frameBytes1 a_nextCell1 a_number1 a_spoiledNumber1 a_buffer1 a_cell1 a_lastSent1 a_ahead1 a_which1 a_isWary1 a_queueCount1 a_queue1 a_inCount1 a_inCircuit1 a_inLength1 a_inBytes1 a_keptCount1 a_isSpoiled1 a_keptNumber1 a_kept1 a_counts1 b_frames1 b_waits1 b_waiting1 b_sentCells1 b_kept1 b_keptOf1 b_keptMixed1 b_keptTurned1 b_numbers1 b_circuits1 b_lengths1 b_spoiled1 b_bytes1 b_headAhead1 b_contentAhead1 b_queueFrame1 b_queueLast1 b_queueTurned1 b_boxHead1 b_boxBytes1
    intro hE1 hY1
    have Z := hY1 (fun r' v' => r' = a_counts1 4 - a_counts 4 ∧ i_Rel (k + 5) (f_buffered1, f_clock1, f_check1, a_isOpen1, a_from1, a_to1, a_gap1, a_tolerance1, a_due1, a_frames1, a_frameLength1, a_frameBytes1, a_nextCell1, a_number1, a_spoiledNumber1, a_buffer1, a_cell1, a_lastSent1, a_ahead1, a_which1, a_isWary1, a_queueCount1, a_queue1, a_inCount1, a_inCircuit1, a_inLength1, a_inBytes1, a_keptCount1, a_isSpoiled1, a_keptNumber1, a_kept1, a_counts1) v') (a_counts 4) (And.intro rfl (i_up (rl_in hE1)))
    exact br_f h0 (br_t h2 (nm_e ⟨T + 1, Z⟩))
  · exact br_f h0 (br_f h2 (br_f h0 (br_f h2 ⟨rfl, i_up hR⟩)))
end
section
theorem ez_cb {post : Int32 → Prop} {x : Int32} (h : x < 0 ∨ nI 8 ≤ x) (hp : post 0) : wpX_isCircuit post x := by
  by_cases z : x < 0
  · exact br_t z hp
  · exact br_f z (br_t (h.resolve_left z) hp)
theorem ez_co {post : Int32 → Prop} {c : Nat} (hc : c < 8) (hp : post 1) : wpX_isCircuit post (nI c) := br_f (nI_pos (by omega)) (br_f (nI_ge (b := 8) hc (by decide)) hp)
theorem ez_sb {post : Int32 → Prop} {x : Int32} (h : x < 0 ∨ nI 4 ≤ x) (hp : post 0) : wpX_isStation post x := by
  by_cases z : x < 0
  · exact br_t z hp
  · exact br_f z (br_t (h.resolve_left z) hp)
theorem ez_so {post : Int32 → Prop} {c : Nat} (hc : c < 4) (hp : post 1) : wpX_isStation post (nI c) := br_f (nI_pos (by omega)) (br_f (nI_ge (b := 4) hc (by decide)) hp)
theorem ez_ix (x : Int32) {n : Nat} (hn : n < 2 ^ 31) : (x < 0 ∨ nI n ≤ x) ∨ ∃ j : Nat, j < n ∧ x = nI j := by
  rcases pk_ix x hn with h | h | h
  · exact Or.inl (Or.inl h)
  · exact Or.inl (Or.inr h)
  · exact Or.inr h
section
variable {f_buffered f_clock f_check b_frames : Int32} {a_isOpen a_from a_to a_gap a_tolerance a_due a_frames a_frameLength a_frameBytes a_nextCell a_number a_spoiledNumber a_buffer a_cell a_lastSent a_ahead a_which a_isWary a_queueCount a_queue a_inCount a_inCircuit a_inLength a_inBytes a_keptCount a_isSpoiled a_keptNumber a_kept a_counts b_waits b_waiting b_sentCells b_kept b_keptOf b_keptMixed b_keptTurned b_numbers b_circuits b_lengths b_spoiled b_bytes b_headAhead b_contentAhead b_queueFrame b_queueLast b_queueTurned b_boxHead b_boxBytes : Nat → Int32}
theorem ey_cb {post : Int32 → Prop} {x : Int32} (h : x < 0 ∨ nI 8 ≤ x) (hp : post 1) : wpY_badCircuit post (f_clock, f_buffered, b_frames, a_counts, a_buffer, a_isOpen, a_from, a_to, a_gap, a_tolerance, a_due, b_waits, b_waiting, b_sentCells, b_kept, b_keptOf, b_keptMixed, b_keptTurned, b_numbers, b_circuits, b_lengths, b_spoiled, b_bytes, a_lastSent, b_headAhead, b_contentAhead, a_isWary, a_queueCount, b_queueFrame, b_queueLast, b_queueTurned, a_inCount, b_boxHead, b_boxBytes) x := by
  by_cases z : x < 0
  · exact br_t z hp
  · exact br_f z (br_f (fun g => absurd (Int32.le_trans (h.resolve_left z) g) (by decide)) hp)
theorem ey_co {post : Int32 → Prop} {c : Nat} (hc : c < 8) (hp : post 0) : wpY_badCircuit post (f_clock, f_buffered, b_frames, a_counts, a_buffer, a_isOpen, a_from, a_to, a_gap, a_tolerance, a_due, b_waits, b_waiting, b_sentCells, b_kept, b_keptOf, b_keptMixed, b_keptTurned, b_numbers, b_circuits, b_lengths, b_spoiled, b_bytes, a_lastSent, b_headAhead, b_contentAhead, a_isWary, a_queueCount, b_queueFrame, b_queueLast, b_queueTurned, a_inCount, b_boxHead, b_boxBytes) (nI c) := br_f (nI_pos (by omega)) (br_t (nI_le (b := 7) (by omega) (by decide)) hp)
theorem ey_sb {post : Int32 → Prop} {x : Int32} (h : x < 0 ∨ nI 4 ≤ x) (hp : post 1) : wpY_badStation post (f_clock, f_buffered, b_frames, a_counts, a_buffer, a_isOpen, a_from, a_to, a_gap, a_tolerance, a_due, b_waits, b_waiting, b_sentCells, b_kept, b_keptOf, b_keptMixed, b_keptTurned, b_numbers, b_circuits, b_lengths, b_spoiled, b_bytes, a_lastSent, b_headAhead, b_contentAhead, a_isWary, a_queueCount, b_queueFrame, b_queueLast, b_queueTurned, a_inCount, b_boxHead, b_boxBytes) x := by
  by_cases z : x < 0
  · exact br_t z hp
  · exact br_f z (br_f (fun g => absurd (Int32.le_trans (h.resolve_left z) g) (by decide)) hp)
theorem ey_so {post : Int32 → Prop} {c : Nat} (hc : c < 4) (hp : post 0) : wpY_badStation post (f_clock, f_buffered, b_frames, a_counts, a_buffer, a_isOpen, a_from, a_to, a_gap, a_tolerance, a_due, b_waits, b_waiting, b_sentCells, b_kept, b_keptOf, b_keptMixed, b_keptTurned, b_numbers, b_circuits, b_lengths, b_spoiled, b_bytes, a_lastSent, b_headAhead, b_contentAhead, a_isWary, a_queueCount, b_queueFrame, b_queueLast, b_queueTurned, a_inCount, b_boxHead, b_boxBytes) (nI c) := br_f (nI_pos (by omega)) (br_t (nI_le (b := 3) (by omega) (by decide)) hp)
theorem xi_loop {post : SX → Prop} (h : post (f_buffered, f_clock, f_check, a_isOpen, a_from, a_to, a_gap, a_tolerance, a_due, a_frames, a_frameLength, a_frameBytes, a_nextCell, a_number, a_spoiledNumber, a_buffer, a_cell, (ar_cp a_lastSent 0 4 (fun _ => 7)), a_ahead, a_which, a_isWary, a_queueCount, a_queue, a_inCount, a_inCircuit, a_inLength, a_inBytes, a_keptCount, a_isSpoiled, a_keptNumber, a_kept, a_counts)) : ∀ (d i : Nat) (ls : Nat → Int32), i + d = 4 → ls = ar_cp a_lastSent 0 i (fun _ => 7) → wX_init_236 post f_buffered f_clock f_check (d + 1) (nI i) a_isOpen a_from a_to a_gap a_tolerance a_due a_frames a_frameLength a_frameBytes a_nextCell a_number a_spoiledNumber a_buffer a_cell ls a_ahead a_which a_isWary a_queueCount a_queue a_inCount a_inCircuit a_inLength a_inBytes a_keptCount a_isSpoiled a_keptNumber a_kept a_counts := by
  intro d
  induction d with
  | zero =>
    intro i ls hi hls
    obtain rfl : i = 4 := by omega
    subst hls
    exact br_t (nI_le (a := 4) (b := 4) (by omega) (by omega)) h
  | succ d ih =>
    intro i ls hi hls
    refine br_f (nI_ge (b := 4) (by omega) (by omega)) ⟨vp_in_nI (by omega) (by decide), nm_e (nm_r (nI_1 i) (ih (i + 1) _ (by omega) ?_))⟩
    rw [nl_cl (by omega), hls]
    exact ar_S' (by omega) rfl
theorem yi_loop {post : SY → Prop} (h : post (f_clock, f_buffered, b_frames, a_counts, a_buffer, a_isOpen, a_from, a_to, a_gap, a_tolerance, a_due, b_waits, b_waiting, b_sentCells, b_kept, b_keptOf, b_keptMixed, b_keptTurned, b_numbers, b_circuits, b_lengths, b_spoiled, b_bytes, (ar_cp a_lastSent 0 4 (fun _ => 7)), b_headAhead, b_contentAhead, a_isWary, a_queueCount, b_queueFrame, b_queueLast, b_queueTurned, a_inCount, b_boxHead, b_boxBytes)) : ∀ (d i : Nat) (ls : Nat → Int32), i + d = 4 → ls = ar_cp a_lastSent 0 i (fun _ => 7) → wY_init_250 post f_clock f_buffered b_frames (d + 1) (nI i) a_counts a_buffer a_isOpen a_from a_to a_gap a_tolerance a_due b_waits b_waiting b_sentCells b_kept b_keptOf b_keptMixed b_keptTurned b_numbers b_circuits b_lengths b_spoiled b_bytes ls b_headAhead b_contentAhead a_isWary a_queueCount b_queueFrame b_queueLast b_queueTurned a_inCount b_boxHead b_boxBytes := by
  intro d
  induction d with
  | zero =>
    intro i ls hi hls
    obtain rfl : i = 4 := by omega
    subst hls
    exact br_t (nI_le (a := 4) (b := 4) (by omega) (by omega)) h
  | succ d ih =>
    intro i ls hi hls
    refine br_f (nI_ge (b := 4) (by omega) (by omega)) ⟨vp_in_nI (by omega) (by decide), nm_e (nm_r (nI_1 i) (ih (i + 1) _ (by omega) ?_))⟩
    rw [nl_cl (by omega), hls]
    exact ar_S' (by omega) rfl
end
theorem ez_init : rl_E 0 0 0 0 (fun _ => 0) (fun _ => 0) (fun _ => 0) (fun _ => 0) (fun _ => 0) (fun _ => 0) (fun _ => 0) (fun _ => 0) (fun _ => 0) (fun _ => 0) (fun _ => 0) (fun _ => 0) (fun _ => 0) (fun _ => 0) (ar_cp (fun _ => 0) 0 4 (fun _ => 7)) (fun _ => 0) (fun _ => 0) (fun _ => 0) (fun _ => 0) (fun _ => 0) (fun _ => 0) (fun _ => 0) (fun _ => 0) (fun _ => 0) (fun _ => 0) (fun _ => 0) (fun _ => 0) (fun _ => 0) (fun _ => 0) 0 (fun _ => 0) (fun _ => 0) (fun _ => 0) (fun _ => 0) (fun _ => 0) (fun _ => 0) (fun _ => 0) (fun _ => 0) (fun _ => 0) (fun _ => 0) (fun _ => 0) (fun _ => 0) (fun _ => 0) (fun _ => 0) (fun _ => 0) (fun _ => 0) (fun _ => 0) (fun _ => 0) (fun _ => 0) := by
  refine ⟨0, fun _ => 0, fun _ => 0, fun _ => 0, fun _ => 0, fun _ => 0, fun _ => (0, 0, 1, 0, fun _ => 0), fun _ _ => (0, 0, 0), ⟨by omega, rfl⟩, ?_, ?_, ?_, ?_, ?_, ?_, ?_, ?_⟩
  · exact ⟨⟨0, by omega, rfl⟩, fun _ => cd_B0, fun s hs => ⟨7, by omega, ar_in' _ _ (by omega) (by omega)⟩, fun _ => ⟨0, by omega, rfl⟩⟩
  · exact fun s _ => ⟨0, by omega, rfl, rfl, rfl⟩
  · exact fun s _ => ⟨0, by omega, rfl, fun j hj => absurd hj (by omega)⟩
  · refine ⟨fun y => ⟨by show 0 < 8; omega, by show 1 ≤ 1; omega, by show 1 ≤ 27; omega, fun _ => cd_B0⟩, fun y y' h1 h2 => by omega, fun y h1 h2 => by omega, fun c => by show 0 + 0 ≤ 0; omega⟩
  · exact fun c _ => ⟨Nat.zero_le 2, rfl, rfl, fun _ => rfl, fun h => absurd rfl h⟩
  · exact fun c _ j hj => absurd hj (Nat.not_lt_zero j)
  · exact ⟨fun s _ => ⟨rfl, Nat.zero_le 6⟩, fun s _ j hj => absurd hj (Nat.not_lt_zero j), fun s _ i j _ hj => absurd hj (Nat.not_lt_zero j), fun s _ j hj => absurd hj (Nat.not_lt_zero j)⟩
  · exact fun c _ h => absurd rfl h
theorem i_vc0 : wpX_init (fun u => wpY_init (fun v => i_Rel 0 u v)) :=
  ⟨5, xi_loop ⟨5, yi_loop (rl_in ez_init) 4 0 _ rfl (ar_0 _ _ _).symm⟩ 4 0 _ rfl (ar_0 _ _ _).symm⟩
theorem i_vc_waiting {k : Nat} {u : SX} {v : SY} (I : i_Rel k u v) (hk : k + 5 ≤ 2560) (v1 : Int32) : wpX_waiting (fun r => wpY_waiting (fun r' => r' = r ∧ i_Rel (k + 5) u v) v v1) u v1 := by
  refine rl_el (P := fun u v => wpX_waiting (fun r => wpY_waiting (fun r' => r' = r ∧ i_Rel (k + 5) u v) v v1) u v1) ?_ I
  intro f_buffered f_clock f_check a_isOpen a_from a_to a_gap a_tolerance a_due a_frames a_frameLength a_frameBytes a_nextCell a_number a_spoiledNumber a_buffer a_cell a_lastSent a_ahead a_which a_isWary a_queueCount a_queue a_inCount a_inCircuit a_inLength a_inBytes a_keptCount a_isSpoiled a_keptNumber a_kept a_counts b_frames b_waits b_waiting b_sentCells b_kept b_keptOf b_keptMixed b_keptTurned b_numbers b_circuits b_lengths b_spoiled b_bytes b_headAhead b_contentAhead b_queueFrame b_queueLast b_queueTurned b_boxHead b_boxBytes
  intro hE
  have hR := i_up (rl_in hE)
  obtain ⟨F, m, n, w, ls, q, G, Q, ⟨hFK, hFf⟩, hS, hA, hN, hG, hC, hW, hQ, hKk⟩ := hE
  unfold wpX_waiting wpY_waiting
  dsimp only
  rcases ez_ix v1 (n := 8) (by decide) with h | ⟨c, hc, rfl⟩
  · exact ez_cb h (br_t rfl (ey_cb h (br_f (by decide) ⟨rfl, hR⟩)))
  · have i8 : vp_in (nI c) 8 := vp_in_nI hc (by decide)
    rw [nl_cl (by omega)]
    by_cases o : a_isOpen c = 0
    · exact ez_co hc (br_f (by decide) ⟨i8, br_t o (ey_co hc (br_t rfl ⟨i8, br_t o ⟨rfl, hR⟩⟩))⟩)
    · refine ez_co hc (br_f (by decide) ⟨i8, br_f o ⟨i8, ey_co hc (br_t rfl ⟨i8, br_f o ⟨i8, ?_, hR⟩⟩)⟩⟩)
      rw [(hC c hc).2.1, ((hC c hc).2.2.2.2 o).1]
theorem i_vc_time {k : Nat} {u : SX} {v : SY} (I : i_Rel k u v) (hk : k + 5 ≤ 2560) : wpX_time (fun r => wpY_time (fun r' => r' = r ∧ i_Rel (k + 5) u v) v) u := by
  refine rl_el (P := fun u v => wpX_time (fun r => wpY_time (fun r' => r' = r ∧ i_Rel (k + 5) u v) v) u) ?_ I
  intro f_buffered f_clock f_check a_isOpen a_from a_to a_gap a_tolerance a_due a_frames a_frameLength a_frameBytes a_nextCell a_number a_spoiledNumber a_buffer a_cell a_lastSent a_ahead a_which a_isWary a_queueCount a_queue a_inCount a_inCircuit a_inLength a_inBytes a_keptCount a_isSpoiled a_keptNumber a_kept a_counts b_frames b_waits b_waiting b_sentCells b_kept b_keptOf b_keptMixed b_keptTurned b_numbers b_circuits b_lengths b_spoiled b_bytes b_headAhead b_contentAhead b_queueFrame b_queueLast b_queueTurned b_boxHead b_boxBytes
  intro hE
  exact And.intro rfl (i_up (rl_in hE))
theorem i_vc_queued {k : Nat} {u : SX} {v : SY} (I : i_Rel k u v) (hk : k + 5 ≤ 2560) (v1 : Int32) : wpX_queued (fun r => wpY_queued (fun r' => r' = r ∧ i_Rel (k + 5) u v) v v1) u v1 := by
  refine rl_el (P := fun u v => wpX_queued (fun r => wpY_queued (fun r' => r' = r ∧ i_Rel (k + 5) u v) v v1) u v1) ?_ I
  intro f_buffered f_clock f_check a_isOpen a_from a_to a_gap a_tolerance a_due a_frames a_frameLength a_frameBytes a_nextCell a_number a_spoiledNumber a_buffer a_cell a_lastSent a_ahead a_which a_isWary a_queueCount a_queue a_inCount a_inCircuit a_inLength a_inBytes a_keptCount a_isSpoiled a_keptNumber a_kept a_counts b_frames b_waits b_waiting b_sentCells b_kept b_keptOf b_keptMixed b_keptTurned b_numbers b_circuits b_lengths b_spoiled b_bytes b_headAhead b_contentAhead b_queueFrame b_queueLast b_queueTurned b_boxHead b_boxBytes
  intro hE
  have hR := i_up (rl_in hE)
  unfold wpX_queued wpY_queued
  dsimp only
  rcases ez_ix v1 (n := 4) (by decide) with h | ⟨c, hc, rfl⟩
  · exact ez_sb h (br_t rfl (ey_sb h (br_f (by decide) ⟨rfl, hR⟩)))
  · have i4 : vp_in (nI c) 4 := vp_in_nI hc (by decide)
    exact ez_so hc (br_f (by decide) ⟨i4, ey_so hc (br_t rfl ⟨i4, rfl, hR⟩)⟩)
theorem i_vc_inbox {k : Nat} {u : SX} {v : SY} (I : i_Rel k u v) (hk : k + 5 ≤ 2560) (v1 : Int32) : wpX_inbox (fun r => wpY_inbox (fun r' => r' = r ∧ i_Rel (k + 5) u v) v v1) u v1 := by
  refine rl_el (P := fun u v => wpX_inbox (fun r => wpY_inbox (fun r' => r' = r ∧ i_Rel (k + 5) u v) v v1) u v1) ?_ I
  intro f_buffered f_clock f_check a_isOpen a_from a_to a_gap a_tolerance a_due a_frames a_frameLength a_frameBytes a_nextCell a_number a_spoiledNumber a_buffer a_cell a_lastSent a_ahead a_which a_isWary a_queueCount a_queue a_inCount a_inCircuit a_inLength a_inBytes a_keptCount a_isSpoiled a_keptNumber a_kept a_counts b_frames b_waits b_waiting b_sentCells b_kept b_keptOf b_keptMixed b_keptTurned b_numbers b_circuits b_lengths b_spoiled b_bytes b_headAhead b_contentAhead b_queueFrame b_queueLast b_queueTurned b_boxHead b_boxBytes
  intro hE
  have hR := i_up (rl_in hE)
  unfold wpX_inbox wpY_inbox
  dsimp only
  rcases ez_ix v1 (n := 4) (by decide) with h | ⟨c, hc, rfl⟩
  · exact ez_sb h (br_t rfl (ey_sb h (br_f (by decide) ⟨rfl, hR⟩)))
  · have i4 : vp_in (nI c) 4 := vp_in_nI hc (by decide)
    exact ez_so hc (br_f (by decide) ⟨i4, ey_so hc (br_t rfl ⟨i4, rfl, hR⟩)⟩)
theorem i_vc_wary {k : Nat} {u : SX} {v : SY} (I : i_Rel k u v) (hk : k + 5 ≤ 2560) (v1 : Int32) : wpX_wary (fun r => wpY_wary (fun r' => r' = r ∧ i_Rel (k + 5) u v) v v1) u v1 := by
  refine rl_el (P := fun u v => wpX_wary (fun r => wpY_wary (fun r' => r' = r ∧ i_Rel (k + 5) u v) v v1) u v1) ?_ I
  intro f_buffered f_clock f_check a_isOpen a_from a_to a_gap a_tolerance a_due a_frames a_frameLength a_frameBytes a_nextCell a_number a_spoiledNumber a_buffer a_cell a_lastSent a_ahead a_which a_isWary a_queueCount a_queue a_inCount a_inCircuit a_inLength a_inBytes a_keptCount a_isSpoiled a_keptNumber a_kept a_counts b_frames b_waits b_waiting b_sentCells b_kept b_keptOf b_keptMixed b_keptTurned b_numbers b_circuits b_lengths b_spoiled b_bytes b_headAhead b_contentAhead b_queueFrame b_queueLast b_queueTurned b_boxHead b_boxBytes
  intro hE
  have hR := i_up (rl_in hE)
  unfold wpX_wary wpY_wary
  dsimp only
  rcases ez_ix v1 (n := 4) (by decide) with h | ⟨c, hc, rfl⟩
  · exact ez_sb h (br_t rfl (ey_sb h (br_f (by decide) ⟨rfl, hR⟩)))
  · have i4 : vp_in (nI c) 4 := vp_in_nI hc (by decide)
    by_cases z : a_isWary (nI c).toNatClampNeg = 0
    · exact ez_so hc (br_f (by decide) ⟨i4, br_t z (ey_so hc (br_t rfl ⟨i4, br_t z ⟨rfl, hR⟩⟩))⟩)
    · exact ez_so hc (br_f (by decide) ⟨i4, br_f z (ey_so hc (br_t rfl ⟨i4, br_f z ⟨rfl, hR⟩⟩))⟩)
theorem i_vc_counted {k : Nat} {u : SX} {v : SY} (I : i_Rel k u v) (hk : k + 5 ≤ 2560) (v1 : Int32) : wpX_counted (fun r => wpY_counted (fun r' => r' = r ∧ i_Rel (k + 5) u v) v v1) u v1 := by
  refine rl_el (P := fun u v => wpX_counted (fun r => wpY_counted (fun r' => r' = r ∧ i_Rel (k + 5) u v) v v1) u v1) ?_ I
  intro f_buffered f_clock f_check a_isOpen a_from a_to a_gap a_tolerance a_due a_frames a_frameLength a_frameBytes a_nextCell a_number a_spoiledNumber a_buffer a_cell a_lastSent a_ahead a_which a_isWary a_queueCount a_queue a_inCount a_inCircuit a_inLength a_inBytes a_keptCount a_isSpoiled a_keptNumber a_kept a_counts b_frames b_waits b_waiting b_sentCells b_kept b_keptOf b_keptMixed b_keptTurned b_numbers b_circuits b_lengths b_spoiled b_bytes b_headAhead b_contentAhead b_queueFrame b_queueLast b_queueTurned b_boxHead b_boxBytes
  intro hE
  have hR := i_up (rl_in hE)
  by_cases h0 : v1 < 0
  · exact br_t h0 (br_t h0 ⟨rfl, hR⟩)
  by_cases h6 : v1 ≤ 6
  · obtain ⟨j, hj, rfl⟩ := nI_of2 (M := 6) (n := 6) (by decide) h0 h6
    have i7 : vp_in (nI j) 7 := vp_in_nI (by omega) (by decide)
    exact br_f h0 (br_t h6 ⟨i7, br_f h0 (br_t h6 ⟨i7, rfl, hR⟩)⟩)
  · exact br_f h0 (br_f h6 (br_f h0 (br_f h6 ⟨rfl, hR⟩)))
theorem i_vc_first {k : Nat} {u : SX} {v : SY} (I : i_Rel k u v) (hk : k + 5 ≤ 2560) (v1 : Int32) : wpX_first (fun r => wpY_first (fun r' => r' = r ∧ i_Rel (k + 5) u v) v v1) u v1 := by
  refine rl_el (P := fun u v => wpX_first (fun r => wpY_first (fun r' => r' = r ∧ i_Rel (k + 5) u v) v v1) u v1) ?_ I
  intro f_buffered f_clock f_check a_isOpen a_from a_to a_gap a_tolerance a_due a_frames a_frameLength a_frameBytes a_nextCell a_number a_spoiledNumber a_buffer a_cell a_lastSent a_ahead a_which a_isWary a_queueCount a_queue a_inCount a_inCircuit a_inLength a_inBytes a_keptCount a_isSpoiled a_keptNumber a_kept a_counts b_frames b_waits b_waiting b_sentCells b_kept b_keptOf b_keptMixed b_keptTurned b_numbers b_circuits b_lengths b_spoiled b_bytes b_headAhead b_contentAhead b_queueFrame b_queueLast b_queueTurned b_boxHead b_boxBytes
  intro hE
  have hR := i_up (rl_in hE)
  obtain ⟨F, m, n, w, ls, q, G, Q, ⟨hFK, hFf⟩, hS, hA, hN, hG, hC, hW, hQ, hKk⟩ := hE
  unfold wpX_first wpY_first
  dsimp only
  rcases ez_ix v1 (n := 4) (by decide) with h | ⟨s, hs, rfl⟩
  · exact ez_sb h (br_t rfl (ey_sb h (br_f (by decide) ⟨rfl, hR⟩)))
  · have i4 : vp_in (nI s) 4 := vp_in_nI hs (by decide)
    obtain ⟨b, hb, hB, hI⟩ := hN s hs
    have i16 : vp_in (nI (4 * s)) 16 := vp_in_nI (by omega) (by decide)
    rw [nl_cl (by omega), nl_m4, nl_cl (by omega)]
    by_cases z : b = 0
    · have z' : a_inCount s = 0 := by rw [hB, z]; rfl
      exact ez_so hs (br_f (by decide) ⟨i4, br_t z' (ey_so hs (br_t rfl ⟨i4, br_t z' ⟨rfl, hR⟩⟩))⟩)
    · have z' : ¬ a_inCount s = 0 := by rw [hB]; exact nI_ne0 (by omega) (by omega)
      obtain ⟨c, l, d1, d2, d3, d4, d5, d6, d7⟩ := hI 0 (by omega)
      refine ez_so hs (br_f (by decide) ⟨i4, br_f z' ⟨i16, i16, ey_so hs (br_t rfl ⟨i4, br_f z' ⟨i16, ?_, hR⟩⟩)⟩⟩)
      rw [Nat.add_zero] at d4 d5 d6
      rw [d4, d5, d6, nl_m32, nI_add]
theorem i_vc_byteOf {k : Nat} {u : SX} {v : SY} (I : i_Rel k u v) (hk : k + 5 ≤ 2560) (v1 : Int32) (v2 : Int32) : wpX_byteOf (fun r => wpY_byteOf (fun r' => r' = r ∧ i_Rel (k + 5) u v) v v1 v2) u v1 v2 := by
  refine rl_el (P := fun u v => wpX_byteOf (fun r => wpY_byteOf (fun r' => r' = r ∧ i_Rel (k + 5) u v) v v1 v2) u v1 v2) ?_ I
  intro f_buffered f_clock f_check a_isOpen a_from a_to a_gap a_tolerance a_due a_frames a_frameLength a_frameBytes a_nextCell a_number a_spoiledNumber a_buffer a_cell a_lastSent a_ahead a_which a_isWary a_queueCount a_queue a_inCount a_inCircuit a_inLength a_inBytes a_keptCount a_isSpoiled a_keptNumber a_kept a_counts b_frames b_waits b_waiting b_sentCells b_kept b_keptOf b_keptMixed b_keptTurned b_numbers b_circuits b_lengths b_spoiled b_bytes b_headAhead b_contentAhead b_queueFrame b_queueLast b_queueTurned b_boxHead b_boxBytes
  intro hE
  have hR := i_up (rl_in hE)
  obtain ⟨F, m, n, w, ls, q, G, Q, ⟨hFK, hFf⟩, hS, hA, hN, hG, hC, hW, hQ, hKk⟩ := hE
  unfold wpX_byteOf wpY_byteOf
  dsimp only
  rcases ez_ix v1 (n := 4) (by decide) with h | ⟨s, hs, rfl⟩
  · exact ez_sb h (br_t rfl (ey_sb h (br_f (by decide) ⟨rfl, hR⟩)))
  · have i4 : vp_in (nI s) 4 := vp_in_nI hs (by decide)
    obtain ⟨b, hb, hB, hI⟩ := hN s hs
    have i16 : vp_in (nI (4 * s)) 16 := vp_in_nI (by omega) (by decide)
    rw [nl_cl (show s < 2147483648 by omega), nl_m4, nl_cl (show 4 * s < 2147483648 by omega)]
    by_cases z : b = 0
    · have z' : a_inCount s = 0 := by rw [hB, z]; rfl
      exact ez_so hs (br_f (by decide) (nm_e ⟨i4, br_t z' (ey_so hs (br_t rfl ⟨i4, br_t z' ⟨rfl, hR⟩⟩))⟩))
    · have z' : ¬ a_inCount s = 0 := by rw [hB]; exact nI_ne0 (by omega) (by omega)
      obtain ⟨c, l, d1, d2, d3, d4, d5, d6, d7⟩ := hI 0 (by omega)
      rw [Nat.add_zero] at d4 d5 d6
      by_cases h0 : v2 < 0
      · exact ez_so hs (br_f (by decide) (nm_e ⟨i4, br_f z' (br_t h0 (ey_so hs (br_t rfl ⟨i4, br_f z' (br_t h0 ⟨rfl, hR⟩)⟩)))⟩))
      · obtain ⟨i, hi, rfl⟩ := nI_of h0
        have e32 : nI (32 * c + l) - nI (32 * c + l) / 32 * 32 = nI l := by
          rw [nl_r32 (by omega)]
          congr 1
          omega
        rw [d6, e32]
        by_cases hl : i < l
        · have hlt : nI i < nI l := nI_lt hl (by omega)
          have x1 : 27 * nI (4 * s) + nI i = nI (27 * (4 * s) + i) := by rw [nl_m27, nI_add]
          have x2 : 108 * nI s + nI i = nI (27 * (4 * s) + i) := by
            rw [nl_m108, nI_add]
            congr 1
            omega
          refine ez_so hs (br_f (by decide) (nm_e ⟨i4, br_f z' (br_f h0 ⟨i16, br_t (by rw [nl_cl (by omega), d5]; exact hlt) ⟨pk_in _ _ (by omega) x1, ey_so hs (br_t rfl ⟨i4, br_f z' (br_f h0 ⟨i16, by decide, br_t hlt ⟨pk_in _ _ (by omega) x2, ?_, hR⟩⟩)⟩)⟩⟩)⟩))
          rw [x1, x2, nl_cl (by omega)]
          exact (d7 i hl).symm
        · have hlt : ¬ nI i < nI l := nI_nlt (by omega) hi
          exact ez_so hs (br_f (by decide) (nm_e ⟨i4, br_f z' (br_f h0 ⟨i16, br_f (by rw [nl_cl (by omega), d5]; exact hlt) (ey_so hs (br_t rfl ⟨i4, br_f z' (br_f h0 ⟨i16, by decide, br_f hlt ⟨rfl, hR⟩⟩)⟩))⟩)⟩))
end
section
theorem i_vc_fill {k : Nat} {u : SX} {v : SY} (I : i_Rel k u v) (hk : k + 5 ≤ 2560) (v1 : Int32) : wpX_fill (fun r u' => wpY_fill (fun r' v' => r' = r ∧ i_Rel (k + 5) u' v') v v1) u v1 := by
  refine rl_el (P := fun u v => wpX_fill (fun r u' => wpY_fill (fun r' v' => r' = r ∧ i_Rel (k + 5) u' v') v v1) u v1) ?_ I
  intro f_buffered f_clock f_check a_isOpen a_from a_to a_gap a_tolerance a_due a_frames a_frameLength a_frameBytes a_nextCell a_number a_spoiledNumber a_buffer a_cell a_lastSent a_ahead a_which a_isWary a_queueCount a_queue a_inCount a_inCircuit a_inLength a_inBytes a_keptCount a_isSpoiled a_keptNumber a_kept a_counts b_frames b_waits b_waiting b_sentCells b_kept b_keptOf b_keptMixed b_keptTurned b_numbers b_circuits b_lengths b_spoiled b_bytes b_headAhead b_contentAhead b_queueFrame b_queueLast b_queueTurned b_boxHead b_boxBytes
  intro hE
  have hR := i_up (rl_in hE)
  obtain ⟨F, m, n, w, ls, q, G, Q, ⟨hFK, hFf⟩, ⟨⟨nb, hnb, hNB⟩, hBf, hLS, hTO⟩, hA, hN, hG, hC, hW, hQ, hKk⟩ := hE
  subst hNB
  by_cases h0 : v1 < 0
  · exact br_t h0 (br_t h0 ⟨rfl, hR⟩)
  by_cases h2 : v1 ≤ 255
  · obtain ⟨j, hj, rfl⟩ := nI_of2 (M := 255) (n := 255) (by decide) h0 h2
    by_cases h27 : nb = 27
    · subst h27
      exact br_f h0 (br_t h2 (br_f (by decide) (br_f h0 (br_t h2 (br_t rfl ⟨rfl, hR⟩)))))
    · have i27 : vp_in (nI nb) 27 := vp_in_nI (by omega) (by decide)
      have a1 : nI nb < 27 := nI_lt (b := 27) (by omega) (by decide)
      have a2 : ¬ nI nb = 27 := fun g => h27 ((nI_eq (b := 27) (by omega) (by decide)).mp g)
      have hS' : rl_S (nI nb + 1) (upd a_buffer (nI nb).toNatClampNeg (nI j)) a_lastSent a_to := by
        refine ⟨⟨nb + 1, by omega, nI_1 nb⟩, fun i => ?_, hLS, hTO⟩
        rw [nl_cl (by omega)]
        by_cases e : i = nb
        · rw [e, pk_us]; exact cd_Bn (by omega)
        · rw [pk_un e]; exact hBf i
      exact br_f h0 (br_t h2 (br_t a1 ⟨i27, nm_e (nm_e (br_f h0 (br_t h2 (br_f a2 ⟨i27, nm_e (nm_e ⟨rfl, i_up (rl_in ⟨F, m, n, w, ls, q, G, Q, ⟨hFK, hFf⟩, hS', hA, hN, hG, hC, hW, hQ, hKk⟩)⟩)⟩))))⟩))
  · exact br_f h0 (br_f h2 (br_f h0 (br_f h2 ⟨rfl, hR⟩)))
section
variable {f_buffered f_clock f_check b_frames : Int32} {a_isOpen a_from a_to a_gap a_tolerance a_due a_frames a_frameLength a_frameBytes a_nextCell a_number a_spoiledNumber a_buffer a_cell a_lastSent a_ahead a_which a_isWary a_queueCount a_queue a_inCount a_inCircuit a_inLength a_inBytes a_keptCount a_isSpoiled a_keptNumber a_kept a_counts b_waits b_waiting b_sentCells b_kept b_keptOf b_keptMixed b_keptTurned b_numbers b_circuits b_lengths b_spoiled b_bytes b_headAhead b_contentAhead b_queueFrame b_queueLast b_queueTurned b_boxHead b_boxBytes : Nat → Int32}
theorem rn_X {post : Int32 → SX → Prop} {v1 v2 : Int32} {nb T : Nat} (hT : nb + T ≤ 27) (h : post (nI (nb + T)) ((nI (nb + T)), f_clock, f_check, a_isOpen, a_from, a_to, a_gap, a_tolerance, a_due, a_frames, a_frameLength, a_frameBytes, a_nextCell, a_number, a_spoiledNumber, (ar_cp a_buffer nb T (fun i => (v1 + v2 * nI i) &&& 255)), a_cell, a_lastSent, a_ahead, a_which, a_isWary, a_queueCount, a_queue, a_inCount, a_inCircuit, a_inLength, a_inBytes, a_keptCount, a_isSpoiled, a_keptNumber, a_kept, a_counts)) :
    ∀ (d i : Nat) (bu : Nat → Int32), i + d = T → bu = ar_cp a_buffer nb i (fun i => (v1 + v2 * nI i) &&& 255) → wX_run_23 post v1 v2 (nI T) f_clock f_check (d + 1) (nI i) (nI (nb + i)) a_isOpen a_from a_to a_gap a_tolerance a_due a_frames a_frameLength a_frameBytes a_nextCell a_number a_spoiledNumber bu a_cell a_lastSent a_ahead a_which a_isWary a_queueCount a_queue a_inCount a_inCircuit a_inLength a_inBytes a_keptCount a_isSpoiled a_keptNumber a_kept a_counts := by
  intro d
  induction d with
  | zero =>
    intro i bu hi hbu
    obtain rfl : i = T := by omega
    subst hbu
    exact br_t (nI_le (Nat.le_refl _) (by omega)) h
  | succ d ih =>
    intro i bu hi hbu
    refine br_f (nI_ge (by omega) (by omega)) ⟨vp_in_nI (by omega) (by decide), nm_e (nm_r (nI_1 _) (nm_r (nI_1 i) (ih (i + 1) _ (by omega) ?_)))⟩
    rw [nl_cl (by omega), hbu]
    exact ar_S' rfl rfl
theorem rn_Y {post : Int32 → SY → Prop} {v1 v2 : Int32} {nb T : Nat} (hT : nb + T ≤ 27) (h : post (nI (nb + T)) (f_clock, (nI (nb + T)), b_frames, a_counts, (ar_cp a_buffer nb T (fun i => (v1 + v2 * nI i) &&& 255)), a_isOpen, a_from, a_to, a_gap, a_tolerance, a_due, b_waits, b_waiting, b_sentCells, b_kept, b_keptOf, b_keptMixed, b_keptTurned, b_numbers, b_circuits, b_lengths, b_spoiled, b_bytes, a_lastSent, b_headAhead, b_contentAhead, a_isWary, a_queueCount, b_queueFrame, b_queueLast, b_queueTurned, a_inCount, b_boxHead, b_boxBytes)) :
    ∀ (d i : Nat) (bu : Nat → Int32), i + d = T → bu = ar_cp a_buffer nb i (fun i => (v1 + v2 * nI i) &&& 255) → wY_run_23 post v1 v2 (nI T) f_clock (nI nb) b_frames (d + 1) (nI i) a_counts bu a_isOpen a_from a_to a_gap a_tolerance a_due b_waits b_waiting b_sentCells b_kept b_keptOf b_keptMixed b_keptTurned b_numbers b_circuits b_lengths b_spoiled b_bytes a_lastSent b_headAhead b_contentAhead a_isWary a_queueCount b_queueFrame b_queueLast b_queueTurned a_inCount b_boxHead b_boxBytes := by
  intro d
  induction d with
  | zero =>
    intro i bu hi hbu
    obtain rfl : i = T := by omega
    subst hbu
    exact br_t (nI_le (Nat.le_refl _) (by omega)) (nm_r (nI_add _ _) h)
  | succ d ih =>
    intro i bu hi hbu
    have e1 : nI nb + nI i = nI (nb + i) := nI_add _ _
    refine br_f (nI_ge (by omega) (by omega)) ⟨pk_in _ _ (by omega) e1, nm_e (nm_r (nI_1 i) (ih (i + 1) _ (by omega) ?_))⟩
    rw [e1, nl_cl (by omega), hbu]
    exact ar_S' rfl rfl
end
theorem i_vc_run {k : Nat} {u : SX} {v : SY} (I : i_Rel k u v) (hk : k + 5 ≤ 2560) (v1 : Int32) (v2 : Int32) (v3 : Int32) : wpX_run (fun r u' => wpY_run (fun r' v' => r' = r ∧ i_Rel (k + 5) u' v') v v1 v2 v3) u v1 v2 v3 := by
  refine rl_el (P := fun u v => wpX_run (fun r u' => wpY_run (fun r' v' => r' = r ∧ i_Rel (k + 5) u' v') v v1 v2 v3) u v1 v2 v3) ?_ I
  intro f_buffered f_clock f_check a_isOpen a_from a_to a_gap a_tolerance a_due a_frames a_frameLength a_frameBytes a_nextCell a_number a_spoiledNumber a_buffer a_cell a_lastSent a_ahead a_which a_isWary a_queueCount a_queue a_inCount a_inCircuit a_inLength a_inBytes a_keptCount a_isSpoiled a_keptNumber a_kept a_counts b_frames b_waits b_waiting b_sentCells b_kept b_keptOf b_keptMixed b_keptTurned b_numbers b_circuits b_lengths b_spoiled b_bytes b_headAhead b_contentAhead b_queueFrame b_queueLast b_queueTurned b_boxHead b_boxBytes
  intro hE
  have hR := i_up (rl_in hE)
  obtain ⟨F, m, n, w, ls, q, G, Q, ⟨hFK, hFf⟩, ⟨⟨nb, hnb, hNB⟩, hBf, hLS, hTO⟩, hA, hN, hG, hC, hW, hQ, hKk⟩ := hE
  subst hNB
  by_cases h0 : 0 ≤ v3
  · obtain ⟨T, hT, rfl⟩ := nI_of (x := v3) (Int32.not_lt.mpr h0)
    by_cases h2 : nI T ≤ 27 - nI nb
    · have h2' := h2
      rw [nl_s27 hnb, nI_leI (by omega) (by omega)] at h2'
      have hS' : rl_S (nI (nb + T)) (ar_cp a_buffer nb T (fun i => (v1 + v2 * nI i) &&& 255)) a_lastSent a_to := by
        refine ⟨⟨nb + T, by omega, rfl⟩, fun i => ?_, hLS, hTO⟩
        unfold ar_cp
        split
        · exact cd_Ba _
        · exact hBf i
      refine br_t h0 (br_t h2 ⟨T + 1, rn_X (by omega) ?_ T 0 _ (by omega) (ar_0 _ _ _).symm⟩)
      refine br_t h0 (br_t h2 ⟨T + 1, rn_Y (by omega) ?_ T 0 _ (by omega) (ar_0 _ _ _).symm⟩)
      exact ⟨rfl, i_up (rl_in ⟨F, m, n, w, ls, q, G, Q, ⟨hFK, hFf⟩, hS', hA, hN, hG, hC, hW, hQ, hKk⟩)⟩
    · exact br_t h0 (br_f h2 (br_t h0 (br_f h2 ⟨rfl, hR⟩)))
  · exact br_f h0 (br_f h0 ⟨rfl, hR⟩)
theorem i_vc_turn {k : Nat} {u : SX} {v : SY} (I : i_Rel k u v) (hk : k + 5 ≤ 2560) (v1 : Int32) (v2 : Int32) (v3 : Int32) : wpX_turn (fun r u' => wpY_turn (fun r' v' => r' = r ∧ i_Rel (k + 5) u' v') v v1 v2 v3) u v1 v2 v3 := by
  refine rl_el (P := fun u v => wpX_turn (fun r u' => wpY_turn (fun r' v' => r' = r ∧ i_Rel (k + 5) u' v') v v1 v2 v3) u v1 v2 v3) ?_ I
  intro f_buffered f_clock f_check a_isOpen a_from a_to a_gap a_tolerance a_due a_frames a_frameLength a_frameBytes a_nextCell a_number a_spoiledNumber a_buffer a_cell a_lastSent a_ahead a_which a_isWary a_queueCount a_queue a_inCount a_inCircuit a_inLength a_inBytes a_keptCount a_isSpoiled a_keptNumber a_kept a_counts b_frames b_waits b_waiting b_sentCells b_kept b_keptOf b_keptMixed b_keptTurned b_numbers b_circuits b_lengths b_spoiled b_bytes b_headAhead b_contentAhead b_queueFrame b_queueLast b_queueTurned b_boxHead b_boxBytes
  intro hE
  have hR := i_up (rl_in hE)
  obtain ⟨F, m, n, w, ls, q, G, Q, ⟨hFK, hFf⟩, hS, hA, hN, hG, hC, hW, hQ, hKk⟩ := hE
  unfold wpX_turn wpY_turn
  dsimp only
  rcases ez_ix v1 (n := 4) (by decide) with h | ⟨s, hs, rfl⟩
  · exact ez_sb h (br_t rfl (ey_sb h (br_f (by decide) ⟨rfl, hR⟩)))
  have i4 : vp_in (nI s) 4 := vp_in_nI hs (by decide)
  have es : (nI s).toNatClampNeg = s := nl_cl (by omega)
  by_cases h0 : v2 < 0
  · exact ez_so hs (br_f (by decide) (br_t h0 (ey_so hs (br_t rfl (br_t h0 ⟨rfl, hR⟩)))))
  by_cases h3 : v2 ≤ 3
  · obtain ⟨a, ha, rfl⟩ := nI_of2 (M := 3) (n := 3) (by decide) h0 h3
    have hA' : rl_A (upd a_ahead s (nI a)) (upd b_headAhead s (nI (if a = 3 then 0 else a))) (upd b_contentAhead s (if a = 3 then 1 else 0)) := by
      intro s' hs'
      by_cases e : s' = s
      · rw [e, pk_us, pk_us, pk_us]; exact ⟨a, ha, rfl, rfl, rfl⟩
      · rw [pk_un e, pk_un e, pk_un e]; exact hA s' hs'
    rw [es]
    refine ez_so hs (br_f (by decide) (br_f h0 (br_t h3 ⟨i4, nm_e ⟨i4, nm_e (ey_so hs (br_t rfl (br_f h0 (br_t h3 ?_))))⟩⟩)))
    by_cases z : a = 3
    · rw [if_pos z, if_pos z] at hA'
      subst z
      refine br_t rfl ?_
      unfold wY_turn_34
      rw [es]
      exact ⟨i4, nm_e (br_t rfl ⟨i4, nm_r (by rw [nl_b1]) ⟨rfl, i_up (rl_in ⟨F, m, n, w, ls, q, G, Q, ⟨hFK, hFf⟩, hS, hA', hN, hG, hC, hW, hQ, hKk⟩)⟩⟩)⟩
    · rw [if_neg z, if_neg z] at hA'
      have z' : ¬ nI a = 3 := fun g => z ((nI_eq (b := 3) (by omega) (by decide)).mp g)
      refine br_f z' ?_
      unfold wY_turn_34
      rw [es]
      exact ⟨i4, nm_e (br_f z' ⟨i4, nm_r (by rw [nl_b0]) ⟨rfl, i_up (rl_in ⟨F, m, n, w, ls, q, G, Q, ⟨hFK, hFf⟩, hS, hA', hN, hG, hC, hW, hQ, hKk⟩)⟩⟩)⟩
  · exact ez_so hs (br_f (by decide) (br_f h0 (br_f h3 (ey_so hs (br_t rfl (br_f h0 (br_f h3 ⟨rfl, hR⟩)))))))
/-- what holds behind the call that makes a circuit live -/
theorem op_rel {m n w ls : Nat → Nat} {G : rg_T} {V : Nat → Prop} {q : Nat → Nat} {Q : Nat → Nat → Nat × Nat × Nat} {F c t : Nat} {a_isOpen a_to a_frames b_waits a_nextCell b_sentCells a_number a_spoiledNumber b_waiting a_frameLength a_frameBytes b_spoiled a_queueCount a_queue b_queueFrame b_queueLast b_queueTurned a_keptCount a_isSpoiled a_keptNumber a_kept b_kept b_keptOf b_keptMixed b_keptTurned : Nat → Int32}
    (hc : c < 8) (ho : a_isOpen c = 0) (hGL : ∀ y, rg_C G y < 8)
    (hC : rl_C m n w a_isOpen a_frames b_waits a_nextCell b_sentCells a_number a_spoiledNumber) (hW : rl_W G V m n w b_waiting a_frameLength a_frameBytes b_spoiled a_spoiledNumber)
    (hQ : rl_Q G V (rl_st m n) ls q Q a_isOpen a_to a_queueCount a_queue b_queueFrame b_queueLast b_queueTurned) (hK : rl_K F G (rl_st m n) ls a_isOpen a_keptCount a_isSpoiled a_keptNumber a_kept b_kept b_keptOf b_keptMixed b_keptTurned) :
    rl_C m (rl_u n c 0) w (upd a_isOpen c 1) (upd a_frames c 0) (upd b_waits c 0) (upd a_nextCell c 0) (upd b_sentCells c 0) a_number (upd a_spoiledNumber c (-1)) ∧
    rl_W G V m (rl_u n c 0) w b_waiting a_frameLength a_frameBytes b_spoiled (upd a_spoiledNumber c (-1)) ∧
    rl_Q G V (rl_st m (rl_u n c 0)) (rl_u ls c 0) q Q (upd a_isOpen c 1) (upd a_to c (nI t)) a_queueCount a_queue b_queueFrame b_queueLast b_queueTurned ∧
    rl_K F G (rl_st m (rl_u n c 0)) (rl_u ls c 0) (upd a_isOpen c 1) (upd a_keptCount c 0) (upd a_isSpoiled c 0) a_keptNumber a_kept (upd b_kept c 0) b_keptOf (upd b_keptMixed c 0) (upd b_keptTurned c 0) := by
  have hw0 := (hC c hc).2.2.2.1 ho
  have hst : ∀ c', c' ≠ c → rl_st m (rl_u n c 0) c' = rl_st m n c' := fun c' e => by unfold rl_st; rw [rl_un _ _ e]
  have hne : ∀ s, s < 4 → ∀ j, j < q s → rg_C G (rq_y (Q s j)) ≠ c := fun s hs j hj g => by
    have := (hQ.2.1 s hs j hj).2.2.2.1
    rw [g] at this
    exact this ho
  refine ⟨fun c' hc' => ?_, fun c' hc' j hj => ?_, ⟨hQ.1, fun s hs j hj => ?_, hQ.2.2.1, fun s hs j hj => ?_⟩, fun c' hc' ho' => ?_⟩
  · by_cases e : c' = c
    · subst e
      rw [pk_us, pk_us, pk_us, pk_us, pk_us, pk_us, rl_us, hw0]
      exact ⟨by omega, rfl, (hC c' hc).2.2.1, fun _ => rfl, fun _ => ⟨rfl, rfl, rfl, fun _ => rfl, by omega, Or.inl rfl⟩⟩
    · rw [pk_un e, pk_un e, pk_un e, pk_un e, pk_un e, pk_un e, rl_un _ _ e]
      exact hC c' hc'
  · have e : c' ≠ c := fun g => by
      rw [g, hw0] at hj
      omega
    obtain ⟨y1, u1, u2, u3, u4, u5, u6, u7, u8⟩ := hW c' hc' j hj
    exact ⟨y1, u1, u2, u3, u4, u5, u6, by rw [rl_un _ _ e]; exact u7, by rw [pk_un e]; exact u8⟩
  · obtain ⟨u1, u2, u3, u4, u5, u6⟩ := hQ.2.1 s hs j hj
    exact ⟨u1, u2, u3, by rw [pk_un (hne s hs j hj)]; exact u4, by rw [pk_un (hne s hs j hj)]; exact u5, u6⟩
  · rw [hst _ (hne s hs j hj), rl_un _ _ (hne s hs j hj)]
    exact hQ.2.2.2 s hs j hj
  · by_cases e : c' = c
    · subst e
      rw [pk_us, pk_us, pk_us, pk_us, pk_us, rl_us]
      exact dk_0 (Nat.zero_le _)
    · rw [pk_un e] at ho'
      rw [pk_un e, pk_un e, pk_un e, pk_un e, pk_un e, rl_un _ _ e, hst c' e]
      exact hK c' hc' ho'
theorem i_vc_open {k : Nat} {u : SX} {v : SY} (I : i_Rel k u v) (hk : k + 5 ≤ 2560) (v1 : Int32) (v2 : Int32) (v3 : Int32) (v4 : Int32) : wpX_open (fun r u' => wpY_open (fun r' v' => r' = r ∧ i_Rel (k + 5) u' v') v v1 v2 v3 v4) u v1 v2 v3 v4 := by
  refine rl_el (P := fun u v => wpX_open (fun r u' => wpY_open (fun r' v' => r' = r ∧ i_Rel (k + 5) u' v') v v1 v2 v3 v4) u v1 v2 v3 v4) ?_ I
  intro f_buffered f_clock f_check a_isOpen a_from a_to a_gap a_tolerance a_due a_frames a_frameLength a_frameBytes a_nextCell a_number a_spoiledNumber a_buffer a_cell a_lastSent a_ahead a_which a_isWary a_queueCount a_queue a_inCount a_inCircuit a_inLength a_inBytes a_keptCount a_isSpoiled a_keptNumber a_kept a_counts b_frames b_waits b_waiting b_sentCells b_kept b_keptOf b_keptMixed b_keptTurned b_numbers b_circuits b_lengths b_spoiled b_bytes b_headAhead b_contentAhead b_queueFrame b_queueLast b_queueTurned b_boxHead b_boxBytes
  intro hE
  have hR := i_up (rl_in hE)
  obtain ⟨F, m, n, w, ls, q, G, Q, ⟨hFK, hFf⟩, hS, hA, hN, hG, hC, hW, hQ, hKk⟩ := hE
  unfold wpX_open wpY_open
  dsimp only
  rcases ez_ix v1 (n := 8) (by decide) with h | ⟨c, hc, rfl⟩
  · exact ez_cb h (br_t rfl (ey_cb h (br_f (by decide) ⟨rfl, hR⟩)))
  have i8 : vp_in (nI c) 8 := vp_in_nI hc (by decide)
  have ec : (nI c).toNatClampNeg = c := nl_cl (by omega)
  refine ez_co hc (br_f (by decide) ?_)
  by_cases h1 : v2 < 0
  · exact br_t h1 (ey_co hc (br_t rfl (br_t h1 ⟨rfl, hR⟩)))
  refine br_f h1 ?_
  by_cases h2 : 15 < v2
  · exact br_t h2 (ey_co hc (br_t rfl (br_f h1 (br_t h2 ⟨rfl, hR⟩))))
  refine br_f h2 ?_
  by_cases h3 : v3 < 1
  · exact br_t h3 (ey_co hc (br_t rfl (br_f h1 (br_f h2 (br_t h3 ⟨rfl, hR⟩)))))
  refine br_f h3 ?_
  by_cases h4 : 8 < v3
  · exact br_t h4 (ey_co hc (br_t rfl (br_f h1 (br_f h2 (br_f h3 (br_t h4 ⟨rfl, hR⟩))))))
  refine br_f h4 ?_
  by_cases h5 : v4 < 0
  · exact br_t h5 (ey_co hc (br_t rfl (br_f h1 (br_f h2 (br_f h3 (br_f h4 (br_t h5 ⟨rfl, hR⟩)))))))
  refine br_f h5 ?_
  by_cases h6 : v4 ≤ 40
  · refine br_t h6 ⟨i8, ?_⟩
    rw [ec]
    by_cases o : a_isOpen c = 0
    · obtain ⟨t, ht, rfl⟩ := nI_of2 (M := 15) (n := 15) (by decide) h1 (Int32.not_lt.mp h2)
      obtain ⟨C1, W1, Q1, K1⟩ := op_rel (t := t % 4) hc o (fun y => (hG.1 y).1) hC hW hQ hKk
      have hS' : rl_S f_buffered a_buffer a_lastSent (upd a_to c (nI (t % 4))) := by
        refine ⟨hS.1, hS.2.1, hS.2.2.1, fun c' => ?_⟩
        by_cases e : c' = c
        · rw [e, pk_us]; exact ⟨t % 4, by omega, rfl⟩
        · rw [pk_un e]; exact hS.2.2.2 c'
      have e4 : nI t - nI t / 4 * 4 = nI (t % 4) := nl_r4 (by omega)
      rw [e4, nl_b1]
      refine br_t o ⟨i8, nm_e ⟨by decide, i8, nm_e ⟨by decide, i8, nm_e ⟨i8, nm_e ⟨i8, nm_e ⟨i8, nm_e ⟨i8, nm_e ⟨i8, nm_e ⟨i8, nm_e (xw_forget hc ?_)⟩⟩⟩⟩⟩⟩⟩⟩⟩
      refine ey_co hc (br_t rfl (br_f h1 (br_f h2 (br_f h3 (br_f h4 (br_f h5 (br_t h6 ⟨i8, br_t o ⟨i8, nm_e ⟨by decide, i8, nm_e ⟨by decide, i8, nm_e ⟨i8, nm_e ⟨i8, nm_e ⟨i8, nm_e ⟨i8, nm_e ⟨i8, nm_e (yw_forget hc ?_)⟩⟩⟩⟩⟩⟩⟩⟩⟩)))))))
      exact ⟨rfl, i_up (rl_in ⟨F, m, _, w, _, q, G, Q, ⟨hFK, hFf⟩, hS', hA, hN, hG, C1, W1, Q1, K1⟩)⟩
    · exact br_f o (ey_co hc (br_t rfl (br_f h1 (br_f h2 (br_f h3 (br_f h4 (br_f h5 (br_t h6 ⟨i8, br_f o ⟨rfl, hR⟩⟩))))))))
  · exact br_f h6 (ey_co hc (br_t rfl (br_f h1 (br_f h2 (br_f h3 (br_f h4 (br_f h5 (br_f h6 ⟨rfl, hR⟩))))))))
end
section
section
variable {f_buffered f_clock f_check b_frames : Int32} {a_isOpen a_from a_to a_gap a_tolerance a_due a_frames a_frameLength a_frameBytes a_nextCell a_number a_spoiledNumber a_buffer a_cell a_lastSent a_ahead a_which a_isWary a_queueCount a_queue a_inCount a_inCircuit a_inLength a_inBytes a_keptCount a_isSpoiled a_keptNumber a_kept a_counts b_waits b_waiting b_sentCells b_kept b_keptOf b_keptMixed b_keptTurned b_numbers b_circuits b_lengths b_spoiled b_bytes b_headAhead b_contentAhead b_queueFrame b_queueLast b_queueTurned b_boxHead b_boxBytes : Nat → Int32}
theorem cl_X {post : Int32 → Prop} {c t qn : Nat} (hc : c < 8) (ht : t < 4) (hQ1 : a_queueCount t = nI qn) (hq : qn ≤ 6) (f : Nat → Nat) (hf : ∀ j, j < qn → f j < 8 ∧ a_queue (12 * (6 * t + j)) >>> ((4 : Int32) &&& 31) = nI (f j))
    (hT : (∃ j, j < qn ∧ f j = c) → post 1) (hF : (¬ ∃ j, j < qn ∧ f j = c) → post 0) :
    ∀ (d i : Nat), i + d = qn → (∀ j, j < i → f j ≠ c) → wX_isQueued_9 post (nI c) (nI t) f_buffered f_clock f_check a_isOpen a_from a_to a_gap a_tolerance a_due a_frames a_frameLength a_frameBytes a_nextCell a_number a_spoiledNumber a_buffer a_cell a_lastSent a_ahead a_which a_isWary a_queueCount a_queue a_inCount a_inCircuit a_inLength a_inBytes a_keptCount a_isSpoiled a_keptNumber a_kept a_counts (d + 1) (nI i) := by
  have et : (nI t).toNatClampNeg = t := nl_cl (by omega)
  have i4 : vp_in (nI t) 4 := vp_in_nI ht (by decide)
  intro d
  induction d with
  | zero =>
    intro i hi hn
    obtain rfl : i = qn := by omega
    refine ⟨i4, br_t (by rw [et, hQ1]; exact nI_le (Nat.le_refl _) (by omega)) (hF (fun ⟨j, hj, e⟩ => hn j hj e))⟩
  | succ d ih =>
    intro i hi hn
    have e1 : 12 * (6 * nI t + nI i) = nI (12 * (6 * t + i)) := by rw [nl_m6, nI_add, nl_m12]
    refine ⟨i4, br_f (by rw [et, hQ1]; exact nI_ge (by omega) (by omega)) ⟨pk_in _ _ (by omega) e1, ?_⟩⟩
    rw [e1, nl_cl (by omega), (hf i (by omega)).2]
    have hfi := (hf i (by omega)).1
    refine pk_eq (f i) c (fun e => hT ⟨i, by omega, e⟩) (fun e => nm_r (nI_1 i) (ih (i + 1) (by omega) (fun j hj => ?_)))
    by_cases ej : j = i
    · rw [ej]; exact e
    · exact hn j (by omega)
theorem cl_Y {post : Int32 → SY → Prop} {c : Nat} (hc : c < 8) (q : Nat → Nat) (hq : ∀ s, s < 4 → a_queueCount s = nI (q s) ∧ q s ≤ 6) (g p : Nat → Nat → Nat)
    (hg : ∀ s, s < 4 → ∀ j, j < q s → g s j < 8 ∧ p s j < 64 ∧ b_queueFrame (6 * s + j) = nI (p s j) ∧ b_circuits (p s j) = nI (g s j))
    (hT : (∃ s j, s < 4 ∧ j < q s ∧ g s j = c) → post (-4) (f_clock, f_buffered, b_frames, a_counts, a_buffer, a_isOpen, a_from, a_to, a_gap, a_tolerance, a_due, b_waits, b_waiting, b_sentCells, b_kept, b_keptOf, b_keptMixed, b_keptTurned, b_numbers, b_circuits, b_lengths, b_spoiled, b_bytes, a_lastSent, b_headAhead, b_contentAhead, a_isWary, a_queueCount, b_queueFrame, b_queueLast, b_queueTurned, a_inCount, b_boxHead, b_boxBytes)) (hF : (¬ ∃ s j, s < 4 ∧ j < q s ∧ g s j = c) → post (b_waits c) (f_clock, f_buffered, b_frames, a_counts, a_buffer, (upd a_isOpen c 0), a_from, a_to, a_gap, a_tolerance, a_due, (upd b_waits c 0), b_waiting, b_sentCells, b_kept, b_keptOf, b_keptMixed, b_keptTurned, b_numbers, b_circuits, b_lengths, b_spoiled, b_bytes, a_lastSent, b_headAhead, b_contentAhead, a_isWary, a_queueCount, b_queueFrame, b_queueLast, b_queueTurned, a_inCount, b_boxHead, b_boxBytes)) :
    ∀ (d i : Nat), i + d = 24 → (∀ s j, s < 4 → j < q s → 6 * s + j < i → g s j ≠ c) → wY_close_24 post (nI c) f_clock f_buffered b_frames a_counts a_buffer a_isOpen a_from a_to a_gap a_tolerance a_due b_waits b_waiting b_sentCells b_kept b_keptOf b_keptMixed b_keptTurned b_numbers b_circuits b_lengths b_spoiled b_bytes a_lastSent b_headAhead b_contentAhead a_isWary a_queueCount b_queueFrame b_queueLast b_queueTurned a_inCount b_boxHead b_boxBytes (d + 1) (nI i) := by
  have ec : (nI c).toNatClampNeg = c := nl_cl (by omega)
  have i8 : vp_in (nI c) 8 := vp_in_nI hc (by decide)
  intro d
  induction d with
  | zero =>
    intro i hi hn
    obtain rfl : i = 24 := by omega
    refine br_t (nI_le (a := 24) (b := 24) (by omega) (by omega)) ?_
    rw [ec, nl_b0]
    exact ⟨i8, nm_e ⟨i8, nm_e ⟨i8, nm_e (hF (fun ⟨s, j, hs, hj, e⟩ => hn s j hs hj (by have := (hq s hs).2; omega) e))⟩⟩⟩
  | succ d ih =>
    intro i hi hn
    refine br_f (nI_ge (b := 24) (by omega) (by omega)) ⟨by decide, by decide, ?_⟩
    rw [nl_r6 (by omega), nl_d6 (by omega), nl_cl (by omega), nl_cl (by omega)]
    obtain ⟨hq1, hq2⟩ := hq (i / 6) (by omega)
    rw [hq1]
    refine ⟨vp_in_nI (by omega) (by decide), pk_le (q (i / 6)) (i % 6) (fun e => ?_) (fun e => ⟨vp_in_nI (by omega) (by decide), ?_⟩)⟩
    · refine nm_r (nI_1 i) (ih (i + 1) (by omega) (fun s j hs hj hlt => ?_))
      by_cases ei : 6 * s + j = i
      · have := (hq s hs).2
        have e1 : i / 6 = s := by omega
        have e2 : i % 6 = j := by omega
        rw [e1, e2] at e
        omega
      · exact hn s j hs hj (by omega)
    · obtain ⟨g1, g2, g3, g4⟩ := hg (i / 6) (by omega) (i % 6) e
      rw [show 6 * (i / 6) + i % 6 = i by omega] at g3
      rw [g3, nl_cl (by omega), g4]
      refine ⟨vp_in_nI g2 (by decide), pk_eq _ c (fun e2 => hT ⟨i / 6, i % 6, by omega, e, e2⟩) (fun e2 => nm_r (nI_1 i) (ih (i + 1) (by omega) (fun s j hs hj hlt => ?_)))⟩
      by_cases ei : 6 * s + j = i
      · have := (hq s hs).2
        have e3 : i / 6 = s := by omega
        have e4 : i % 6 = j := by omega
        rw [e3, e4] at e2
        exact e2
      · exact hn s j hs hj (by omega)
end
theorem cl_rel {m n w ls : Nat → Nat} {G : rg_T} {V : Nat → Prop} {q : Nat → Nat} {Q : Nat → Nat → Nat × Nat × Nat} {F c : Nat} {a_isOpen a_to a_frames b_waits a_nextCell b_sentCells a_number a_spoiledNumber b_waiting a_frameLength a_frameBytes b_spoiled a_queueCount a_queue b_queueFrame b_queueLast b_queueTurned a_keptCount a_isSpoiled a_keptNumber a_kept b_kept b_keptOf b_keptMixed b_keptTurned : Nat → Int32}
    (hc : c < 8) (hno : ¬ ∃ s j, s < 4 ∧ j < q s ∧ rg_C G (rq_y (Q s j)) = c) (hG : rl_G F m w G)
    (hC : rl_C m n w a_isOpen a_frames b_waits a_nextCell b_sentCells a_number a_spoiledNumber) (hW : rl_W G V m n w b_waiting a_frameLength a_frameBytes b_spoiled a_spoiledNumber)
    (hQ : rl_Q G V (rl_st m n) ls q Q a_isOpen a_to a_queueCount a_queue b_queueFrame b_queueLast b_queueTurned) (hK : rl_K F G (rl_st m n) ls a_isOpen a_keptCount a_isSpoiled a_keptNumber a_kept b_kept b_keptOf b_keptMixed b_keptTurned) :
    rl_G F (rl_u m c (m c + w c)) (rl_u w c 0) G ∧
    rl_C (rl_u m c (m c + w c)) n (rl_u w c 0) (upd a_isOpen c 0) a_frames (upd b_waits c 0) a_nextCell b_sentCells (upd a_number c (nI (m c + w c))) a_spoiledNumber ∧
    rl_W G V (rl_u m c (m c + w c)) n (rl_u w c 0) b_waiting a_frameLength a_frameBytes b_spoiled a_spoiledNumber ∧
    rl_Q G V (rl_st (rl_u m c (m c + w c)) n) ls q Q (upd a_isOpen c 0) a_to a_queueCount a_queue b_queueFrame b_queueLast b_queueTurned ∧
    rl_K F G (rl_st (rl_u m c (m c + w c)) n) ls (upd a_isOpen c 0) (upd a_keptCount c 0) (upd a_isSpoiled c 0) a_keptNumber a_kept b_kept b_keptOf b_keptMixed b_keptTurned := by
  have hst : ∀ c', rl_st m n c' ≤ rl_st (rl_u m c (m c + w c)) n c' := fun c' => by
    unfold rl_st
    by_cases e : c' = c
    · rw [e, rl_us]; omega
    · rw [rl_un _ _ e]; omega
  have hQ2 := ra_Q hQ hst
  refine ⟨⟨hG.1, hG.2.1, fun y h1 h2 => ?_, fun c' => ?_⟩, fun c' hc' => ?_, fun c' hc' j hj => ?_, ⟨hQ2.1, fun s hs j hj => ?_, hQ2.2.2.1, hQ2.2.2.2⟩, fun c' hc' ho' => ?_⟩
  · have := hG.2.2.1 y h1 h2
    by_cases e : rg_C G y = c
    · rw [e] at this
      rw [e, rl_us, rl_us]
      omega
    · rw [rl_un _ _ e, rl_un _ _ e]
      exact this
  · have := hG.2.2.2 c'
    by_cases e : c' = c
    · rw [e] at this
      rw [e, rl_us, rl_us]
      omega
    · rw [rl_un _ _ e, rl_un _ _ e]
      exact this
  · by_cases e : c' = c
    · subst e
      rw [pk_us, pk_us, pk_us, rl_us, rl_us]
      exact ⟨by omega, rfl, rfl, fun _ => rfl, fun h => absurd rfl h⟩
    · rw [pk_un e, pk_un e, pk_un e, rl_un _ _ e, rl_un _ _ e]
      exact hC c' hc'
  · have e : c' ≠ c := fun g => by
      rw [g, rl_us] at hj
      omega
    rw [rl_un _ _ e] at hj ⊢
    exact hW c' hc' j hj
  · have hne : rg_C G (rq_y (Q s j)) ≠ c := fun g => hno ⟨s, j, hs, hj, g⟩
    obtain ⟨u1, u2, u3, u4, u5⟩ := hQ.2.1 s hs j hj
    exact ⟨u1, u2, u3, by rw [pk_un hne]; exact u4, u5⟩
  · have e : c' ≠ c := fun g => by
      rw [g, pk_us] at ho'
      exact ho' rfl
    rw [pk_un e] at ho'
    rw [pk_un e, pk_un e]
    exact ra_K hK hst c' hc' ho'
theorem i_vc_close {k : Nat} {u : SX} {v : SY} (I : i_Rel k u v) (hk : k + 5 ≤ 2560) (v1 : Int32) : wpX_close (fun r u' => wpY_close (fun r' v' => r' = r ∧ i_Rel (k + 5) u' v') v v1) u v1 := by
  refine rl_el (P := fun u v => wpX_close (fun r u' => wpY_close (fun r' v' => r' = r ∧ i_Rel (k + 5) u' v') v v1) u v1) ?_ I
  intro f_buffered f_clock f_check a_isOpen a_from a_to a_gap a_tolerance a_due a_frames a_frameLength a_frameBytes a_nextCell a_number a_spoiledNumber a_buffer a_cell a_lastSent a_ahead a_which a_isWary a_queueCount a_queue a_inCount a_inCircuit a_inLength a_inBytes a_keptCount a_isSpoiled a_keptNumber a_kept a_counts b_frames b_waits b_waiting b_sentCells b_kept b_keptOf b_keptMixed b_keptTurned b_numbers b_circuits b_lengths b_spoiled b_bytes b_headAhead b_contentAhead b_queueFrame b_queueLast b_queueTurned b_boxHead b_boxBytes
  intro hE
  have hR := i_up (rl_in hE)
  obtain ⟨F, m, n, w, ls, q, G, Q, ⟨hFK, hFf⟩, hS, hA, hN, hG, hC, hW, hQ, hKk⟩ := hE
  unfold wpX_close wpY_close
  dsimp only
  rcases ez_ix v1 (n := 8) (by decide) with h | ⟨c, hc, rfl⟩
  · exact ez_cb h (br_t rfl (ey_cb h (br_f (by decide) ⟨rfl, hR⟩)))
  have i8 : vp_in (nI c) 8 := vp_in_nI hc (by decide)
  have ec : (nI c).toNatClampNeg = c := nl_cl (by omega)
  rw [ec]
  by_cases o : a_isOpen c = 0
  · exact ez_co hc (br_f (by decide) ⟨i8, br_t o (ey_co hc (br_t rfl ⟨i8, br_t o ⟨rfl, hR⟩⟩))⟩)
  obtain ⟨t, ht, hT⟩ := hS.2.2.2 c
  obtain ⟨hq1, hq2⟩ := hQ.1 t ht
  obtain ⟨c1, c2, c3, c4, c5⟩ := hC c hc
  obtain ⟨f1, f2, f3, f4, f5, f6⟩ := c5 o
  have hf : ∀ j, j < q t → rg_C G (rq_y (Q t j)) < 8 ∧ a_queue (12 * (6 * t + j)) >>> ((4 : Int32) &&& 31) = nI (rg_C G (rq_y (Q t j))) := fun j hj => by
    obtain ⟨u1, u2, u3, u4, u5, u6, u7, u8, u9, _⟩ := hQ.2.1 t ht j hj
    have h8 := (hG.1 (rq_y (Q t j))).1
    have hn := cd_n_in (hG.1 (rq_y (Q t j))).2.2.1
    refine ⟨h8, ?_⟩
    rw [u9]
    unfold xm_hd
    refine xm_c h8 ?_
    split <;> omega
  have hg : ∀ s, s < 4 → ∀ j, j < q s → rg_C G (rq_y (Q s j)) < 8 ∧ rg_P G (rq_y (Q s j)) < 64 ∧ b_queueFrame (6 * s + j) = nI (rg_P G (rq_y (Q s j))) ∧ b_circuits (rg_P G (rq_y (Q s j))) = nI (rg_C G (rq_y (Q s j))) := fun s hs j hj => by
    obtain ⟨u1, u2, u3, u4, u5, u6, _⟩ := hQ.2.1 s hs j hj
    exact ⟨(hG.1 _).1, u1.2.2.1, u6, u1.2.2.2.2.1⟩
  have hiff : (∃ s j, s < 4 ∧ j < q s ∧ rg_C G (rq_y (Q s j)) = c) → ∃ j, j < q t ∧ rg_C G (rq_y (Q t j)) = c := fun ⟨s, j, hs, hj, e⟩ => by
    have a1 := (hQ.2.1 s hs j hj).2.2.2.2.1
    rw [e, hT, nI_eq (by omega) (by omega)] at a1
    subst a1
    exact ⟨j, hj, e⟩
  refine ez_co hc (br_f (by decide) ⟨i8, br_f o ?_⟩)
  unfold wpX_isQueued
  dsimp only
  rw [ec]
  refine ⟨i8, nm_r hT ⟨q t + 1, ?_⟩⟩
  refine cl_X hc ht hq1 hq2 (fun j => rg_C G (rq_y (Q t j))) hf (fun hy => ?_) (fun hy => ?_) (q t) 0 (by omega) (fun j hj => absurd hj (by omega))
  · obtain ⟨j, hj, e⟩ := hy
    refine br_f (by decide) (ey_co hc (br_t rfl ⟨i8, br_f o ⟨25, ?_⟩⟩))
    exact cl_Y hc q hQ.1 _ _ hg (fun _ => ⟨rfl, hR⟩) (fun g => absurd ⟨t, j, ht, hj, e⟩ g) 24 0 rfl (fun _ _ _ _ hl => absurd hl (by omega))
  · have hno : ¬ ∃ s j, s < 4 ∧ j < q s ∧ rg_C G (rq_y (Q s j)) = c := fun g => hy (hiff g)
    obtain ⟨G1, C1, W1, Q1, K1⟩ := cl_rel hc hno hG hC hW hQ hKk
    refine br_t rfl ⟨i8, nm_r (by rw [nl_b0]) ⟨i8, i8, i8, nm_r (e' := upd a_number c (nI (m c + w c))) (by rw [c3, f1, nI_add]) (xw_forget hc ⟨i8, ?_⟩)⟩⟩
    refine ey_co hc (br_t rfl ⟨i8, br_f o ⟨25, ?_⟩⟩)
    refine cl_Y hc q hQ.1 _ _ hg (fun g => absurd g hno) (fun _ => ?_) 24 0 rfl (fun _ _ _ _ hl => absurd hl (by omega))
    exact ⟨c2.trans f1.symm, i_up (rl_in ⟨F, _, n, _, ls, q, G, Q, ⟨hFK, hFf⟩, hS, hA, hN, G1, C1, W1, Q1, K1⟩)⟩
end
section
theorem tk_N {s b0 : Nat} {a_inCount a_inCircuit a_inLength a_inBytes b_boxHead b_boxBytes : Nat → Int32} (h : rl_N a_inCount a_inCircuit a_inLength a_inBytes b_boxHead b_boxBytes) (hs : s < 4) (hb : b0 < 4) (hB : a_inCount s = nI (b0 + 1)) :
    rl_N (upd a_inCount s (nI b0)) (ar_cp a_inCircuit (4 * s) b0 (fun j => a_inCircuit (4 * s + j + 1))) (ar_cp a_inLength (4 * s) b0 (fun j => a_inLength (4 * s + j + 1))) (ar_cp a_inBytes (27 * (4 * s)) (27 * b0) (fun j => a_inBytes (27 * (4 * s) + j + 27)))
      (ar_cp b_boxHead (4 * s) b0 (fun j => b_boxHead (4 * s + j + 1))) (ar_cp b_boxBytes (27 * (4 * s)) (27 * b0) (fun j => b_boxBytes (27 * (4 * s) + j + 27))) := by
  intro s' hs'
  obtain ⟨b', hb', hB', h'⟩ := h s' hs'
  by_cases e : s' = s
  · subst e
    have eb : b' = b0 + 1 := by rw [hB, nI_eq (by omega) (by omega)] at hB'; exact hB'.symm
    refine ⟨b0, by omega, pk_us, fun j hj => ?_⟩
    obtain ⟨c1, l1, d1, d2, d3, d4, d5, d6, d7⟩ := h' (j + 1) (by omega)
    refine ⟨c1, l1, d1, d2, d3, by rw [ar_in _ _ _ _ hj]; exact d4, by rw [ar_in _ _ _ _ hj]; exact d5, by rw [ar_in _ _ _ _ hj]; exact d6, fun i hi => ?_⟩
    rw [ar_in' _ _ (by omega) (by omega), ar_in' _ _ (by omega) (by omega)]
    have := d7 i hi
    rw [show 27 * (4 * s') + (27 * (4 * s' + j) + i - 27 * (4 * s')) + 27 = 27 * (4 * s' + (j + 1)) + i by omega]
    exact this
  · refine ⟨b', hb', by rw [pk_un e]; exact hB', fun j hj => ?_⟩
    obtain ⟨c1, l1, d1, d2, d3, d4, d5, d6, d7⟩ := h' j hj
    refine ⟨c1, l1, d1, d2, d3, by rw [ar_out _ _ (by omega)]; exact d4, by rw [ar_out _ _ (by omega)]; exact d5, by rw [ar_out _ _ (by omega)]; exact d6, fun i hi => ?_⟩
    rw [ar_out _ _ (by omega), ar_out _ _ (by omega)]
    exact d7 i hi
section
variable {f_buffered f_clock f_check b_frames : Int32} {a_isOpen a_from a_to a_gap a_tolerance a_due a_frames a_frameLength a_frameBytes a_nextCell a_number a_spoiledNumber a_buffer a_cell a_lastSent a_ahead a_which a_isWary a_queueCount a_queue a_inCount a_inCircuit a_inLength a_inBytes a_keptCount a_isSpoiled a_keptNumber a_kept a_counts b_waits b_waiting b_sentCells b_kept b_keptOf b_keptMixed b_keptTurned b_numbers b_circuits b_lengths b_spoiled b_bytes b_headAhead b_contentAhead b_queueFrame b_queueLast b_queueTurned b_boxHead b_boxBytes : Nat → Int32}
theorem tk_X86 {post : Int32 → SX → Prop} {s b0 : Nat} {r : Int32} (hs : s < 4) (hb : b0 < 4) (hB : a_inCount s = nI b0) (h : post r (f_buffered, f_clock, f_check, a_isOpen, a_from, a_to, a_gap, a_tolerance, a_due, a_frames, a_frameLength, a_frameBytes, a_nextCell, a_number, a_spoiledNumber, a_buffer, a_cell, a_lastSent, a_ahead, a_which, a_isWary, a_queueCount, a_queue, a_inCount, a_inCircuit, a_inLength, (ar_cp a_inBytes (27 * (4 * s)) (27 * b0) (fun j => a_inBytes (27 * (4 * s) + j + 27))), a_keptCount, a_isSpoiled, a_keptNumber, a_kept, a_counts)) :
    ∀ (d i : Nat) (ib : Nat → Int32), i + d = 27 * b0 → ib = ar_cp a_inBytes (27 * (4 * s)) i (fun j => a_inBytes (27 * (4 * s) + j + 27)) → wX_take_86 post (nI s) r (nI (4 * s)) f_buffered f_clock f_check (d + 1) (nI (27 * (4 * s) + i)) a_isOpen a_from a_to a_gap a_tolerance a_due a_frames a_frameLength a_frameBytes a_nextCell a_number a_spoiledNumber a_buffer a_cell a_lastSent a_ahead a_which a_isWary a_queueCount a_queue a_inCount a_inCircuit a_inLength ib a_keptCount a_isSpoiled a_keptNumber a_kept a_counts := by
  have es : (nI s).toNatClampNeg = s := nl_cl (by omega)
  have i4 : vp_in (nI s) 4 := vp_in_nI hs (by decide)
  have e0 : 27 * (nI (4 * s) + a_inCount (nI s).toNatClampNeg) = nI (27 * (4 * s) + 27 * b0) := by
    rw [es, hB, nI_add, nl_m27]
    congr 1
    omega
  intro d
  induction d with
  | zero =>
    intro i ib hi hib
    obtain rfl : i = 27 * b0 := by omega
    subst hib
    exact ⟨i4, br_t (by rw [e0]; exact nI_le (Nat.le_refl _) (by omega)) h⟩
  | succ d ih =>
    intro i ib hi hib
    have e1 : nI (27 * (4 * s) + i) + 27 = nI (27 * (4 * s) + i + 27) := nl_ar27 _
    refine ⟨i4, br_f (by rw [e0]; exact nI_ge (by omega) (by omega)) ⟨pk_in _ _ (by omega) e1, vp_in_nI (by omega) (by decide), nm_e (nm_r (nI_1 _) (ih (i + 1) _ (by omega) ?_))⟩⟩
    rw [e1, nl_cl (by omega), nl_cl (by omega), hib]
    exact ar_S' rfl (ar_out _ _ (by omega))
theorem tk_X29 {post : Int32 → SX → Prop} {s b0 : Nat} {r : Int32} (hs : s < 4) (hb : b0 < 4) (hB : a_inCount s = nI b0)
    (h : post r (f_buffered, f_clock, f_check, a_isOpen, a_from, a_to, a_gap, a_tolerance, a_due, a_frames, a_frameLength, a_frameBytes, a_nextCell, a_number, a_spoiledNumber, a_buffer, a_cell, a_lastSent, a_ahead, a_which, a_isWary, a_queueCount, a_queue, a_inCount, (ar_cp a_inCircuit (4 * s) b0 (fun j => a_inCircuit (4 * s + j + 1))), (ar_cp a_inLength (4 * s) b0 (fun j => a_inLength (4 * s + j + 1))), (ar_cp a_inBytes (27 * (4 * s)) (27 * b0) (fun j => a_inBytes (27 * (4 * s) + j + 27))), a_keptCount, a_isSpoiled, a_keptNumber, a_kept, a_counts)) :
    ∀ (d i : Nat) (ic il : Nat → Int32), i + d = b0 → ic = ar_cp a_inCircuit (4 * s) i (fun j => a_inCircuit (4 * s + j + 1)) → il = ar_cp a_inLength (4 * s) i (fun j => a_inLength (4 * s + j + 1)) → wX_take_29 post (nI s) r (nI (4 * s)) f_buffered f_clock f_check (d + 1) (nI (4 * s + i)) a_isOpen a_from a_to a_gap a_tolerance a_due a_frames a_frameLength a_frameBytes a_nextCell a_number a_spoiledNumber a_buffer a_cell a_lastSent a_ahead a_which a_isWary a_queueCount a_queue a_inCount ic il a_inBytes a_keptCount a_isSpoiled a_keptNumber a_kept a_counts := by
  have es : (nI s).toNatClampNeg = s := nl_cl (by omega)
  have i4 : vp_in (nI s) 4 := vp_in_nI hs (by decide)
  have e0 : nI (4 * s) + a_inCount (nI s).toNatClampNeg = nI (4 * s + b0) := by rw [es, hB, nI_add]
  intro d
  induction d with
  | zero =>
    intro i ic il hi h1 h2
    obtain rfl : i = b0 := by omega
    subst h1 h2
    refine ⟨i4, br_t (by rw [e0]; exact nI_le (Nat.le_refl _) (by omega)) (nm_r (nl_m27 _) ⟨27 * i + 1, ?_⟩)⟩
    exact tk_X86 hs hb hB h (27 * i) 0 _ (by omega) (ar_0 _ _ _).symm
  | succ d ih =>
    intro i ic il hi h1 h2
    have e1 : nI (4 * s + i) + 1 = nI (4 * s + i + 1) := nI_1 _
    have i16 : vp_in (nI (4 * s + i)) 16 := vp_in_nI (by omega) (by decide)
    have i17 : vp_in (nI (4 * s + i) + 1) 16 := pk_in _ _ (by omega) e1
    refine ⟨i4, br_f (by rw [e0]; exact nI_ge (by omega) (by omega)) ⟨i17, i16, nm_e ⟨i17, i16, nm_e (nm_r e1 (ih (i + 1) _ _ (by omega) ?_ ?_))⟩⟩⟩
    · rw [e1, nl_cl (by omega), nl_cl (by omega), h1]
      exact ar_S' rfl (ar_out _ _ (by omega))
    · rw [e1, nl_cl (by omega), nl_cl (by omega), h2]
      exact ar_S' rfl (ar_out _ _ (by omega))
theorem tk_Y76 {post : Int32 → SY → Prop} {J : Int32 → (Nat → Int32) → (Nat → Int32) → (Nat → Int32) → (Nat → Int32) → (Nat → Int32) → (Nat → Int32) → (Nat → Int32) → (Nat → Int32) → (Nat → Int32) → (Nat → Int32) → (Nat → Int32) → (Nat → Int32) → (Nat → Int32) → (Nat → Int32) → (Nat → Int32) → (Nat → Int32) → (Nat → Int32) → (Nat → Int32) → (Nat → Int32) → (Nat → Int32) → (Nat → Int32) → (Nat → Int32) → (Nat → Int32) → (Nat → Int32) → (Nat → Int32) → (Nat → Int32) → (Nat → Int32) → (Nat → Int32) → (Nat → Int32) → (Nat → Int32) → (Nat → Int32) → Prop} {s i : Nat} {x1 r : Int32} {bb : Nat → Int32} (hs : s < 4) (hi : i < 3)
    (h : J (nI (4 * s + i + 1)) a_counts a_buffer a_isOpen a_from a_to a_gap a_tolerance a_due b_waits b_waiting b_sentCells b_kept b_keptOf b_keptMixed b_keptTurned b_numbers b_circuits b_lengths b_spoiled b_bytes a_lastSent b_headAhead b_contentAhead a_isWary a_queueCount b_queueFrame b_queueLast b_queueTurned a_inCount b_boxHead (ar_cp bb (27 * (4 * s)) (27 * (i + 1)) (fun j => bb (27 * (4 * s) + j + 27)))) :
    ∀ (d k : Nat) (b2 : Nat → Int32), k + d = 27 → b2 = ar_cp bb (27 * (4 * s)) (27 * i + k) (fun j => bb (27 * (4 * s) + j + 27)) → wY_take_76 post J x1 r (nI (4 * s + i)) f_clock f_buffered b_frames (d + 1) (nI k) a_counts a_buffer a_isOpen a_from a_to a_gap a_tolerance a_due b_waits b_waiting b_sentCells b_kept b_keptOf b_keptMixed b_keptTurned b_numbers b_circuits b_lengths b_spoiled b_bytes a_lastSent b_headAhead b_contentAhead a_isWary a_queueCount b_queueFrame b_queueLast b_queueTurned a_inCount b_boxHead b2 := by
  intro d
  induction d with
  | zero =>
    intro k b2 hk hb2
    obtain rfl : k = 27 := by omega
    subst hb2
    exact br_t (nI_le (a := 27) (b := 27) (by omega) (by omega)) (nm_r (nI_1 _) h)
  | succ d ih =>
    intro k b2 hk hb2
    have e1 : 27 * nI (4 * s + i) + 27 + nI k = nI (27 * (4 * s) + (27 * i + k) + 27) := by
      rw [nl_m27, nl_ar27, nI_add]
      congr 1
      omega
    have e2 : 27 * nI (4 * s + i) + nI k = nI (27 * (4 * s) + (27 * i + k)) := by
      rw [nl_m27, nI_add]
      congr 1
      omega
    refine br_f (nI_ge (b := 27) (by omega) (by omega)) ⟨pk_in _ _ (by omega) e1, pk_in _ _ (by omega) e2, nm_e (nm_r (nI_1 k) (ih (k + 1) _ (by omega) ?_))⟩
    rw [e1, e2, nl_cl (by omega), nl_cl (by omega), hb2]
    exact ar_S' rfl (ar_out _ _ (by omega))
theorem tk_Y45 {post : Int32 → SY → Prop} {s b0 : Nat} {r : Int32} (hs : s < 4) (hb : b0 < 4) (hB : a_inCount s = nI b0)
    (h : post r (f_clock, f_buffered, b_frames, a_counts, a_buffer, a_isOpen, a_from, a_to, a_gap, a_tolerance, a_due, b_waits, b_waiting, b_sentCells, b_kept, b_keptOf, b_keptMixed, b_keptTurned, b_numbers, b_circuits, b_lengths, b_spoiled, b_bytes, a_lastSent, b_headAhead, b_contentAhead, a_isWary, a_queueCount, b_queueFrame, b_queueLast, b_queueTurned, a_inCount, (ar_cp b_boxHead (4 * s) b0 (fun j => b_boxHead (4 * s + j + 1))), (ar_cp b_boxBytes (27 * (4 * s)) (27 * b0) (fun j => b_boxBytes (27 * (4 * s) + j + 27))))) :
    ∀ (d i : Nat) (bh b2 : Nat → Int32), i + d = b0 → bh = ar_cp b_boxHead (4 * s) i (fun j => b_boxHead (4 * s + j + 1)) → b2 = ar_cp b_boxBytes (27 * (4 * s)) (27 * i) (fun j => b_boxBytes (27 * (4 * s) + j + 27)) → wY_take_45 post (nI s) r f_clock f_buffered b_frames (d + 1) (nI (4 * s + i)) a_counts a_buffer a_isOpen a_from a_to a_gap a_tolerance a_due b_waits b_waiting b_sentCells b_kept b_keptOf b_keptMixed b_keptTurned b_numbers b_circuits b_lengths b_spoiled b_bytes a_lastSent b_headAhead b_contentAhead a_isWary a_queueCount b_queueFrame b_queueLast b_queueTurned a_inCount bh b2 := by
  have es : (nI s).toNatClampNeg = s := nl_cl (by omega)
  have i4 : vp_in (nI s) 4 := vp_in_nI hs (by decide)
  have e0 : 4 * nI s + a_inCount (nI s).toNatClampNeg = nI (4 * s + b0) := by rw [es, hB, nl_m4, nI_add]
  intro d
  induction d with
  | zero =>
    intro i bh b2 hi h1 h2
    obtain rfl : i = b0 := by omega
    subst h1 h2
    exact ⟨i4, br_t (by rw [e0]; exact nI_le (Nat.le_refl _) (by omega)) h⟩
  | succ d ih =>
    intro i bh b2 hi h1 h2
    have e1 : nI (4 * s + i) + 1 = nI (4 * s + i + 1) := nI_1 _
    have i16 : vp_in (nI (4 * s + i)) 16 := vp_in_nI (by omega) (by decide)
    have i17 : vp_in (nI (4 * s + i) + 1) 16 := pk_in _ _ (by omega) e1
    have hbh : upd bh (nI (4 * s + i)).toNatClampNeg (bh (nI (4 * s + i) + 1).toNatClampNeg) = ar_cp b_boxHead (4 * s) (i + 1) (fun j => b_boxHead (4 * s + j + 1)) := by
      rw [e1, nl_cl (by omega), nl_cl (by omega), h1]
      exact ar_S' rfl (ar_out _ _ (by omega))
    refine ⟨i4, br_f (by rw [e0]; exact nI_ge (by omega) (by omega)) ⟨i17, i16, nm_r hbh ⟨28, ?_⟩⟩⟩
    refine tk_Y76 (bb := b_boxBytes) hs (by omega) ?_ 27 0 _ rfl h2
    exact ih (i + 1) _ _ (by omega) rfl rfl
end
theorem i_vc_take {k : Nat} {u : SX} {v : SY} (I : i_Rel k u v) (hk : k + 5 ≤ 2560) (v1 : Int32) : wpX_take (fun r u' => wpY_take (fun r' v' => r' = r ∧ i_Rel (k + 5) u' v') v v1) u v1 := by
  refine rl_el (P := fun u v => wpX_take (fun r u' => wpY_take (fun r' v' => r' = r ∧ i_Rel (k + 5) u' v') v v1) u v1) ?_ I
  intro f_buffered f_clock f_check a_isOpen a_from a_to a_gap a_tolerance a_due a_frames a_frameLength a_frameBytes a_nextCell a_number a_spoiledNumber a_buffer a_cell a_lastSent a_ahead a_which a_isWary a_queueCount a_queue a_inCount a_inCircuit a_inLength a_inBytes a_keptCount a_isSpoiled a_keptNumber a_kept a_counts b_frames b_waits b_waiting b_sentCells b_kept b_keptOf b_keptMixed b_keptTurned b_numbers b_circuits b_lengths b_spoiled b_bytes b_headAhead b_contentAhead b_queueFrame b_queueLast b_queueTurned b_boxHead b_boxBytes
  intro hE
  have hR := i_up (rl_in hE)
  obtain ⟨F, m, n, w, ls, q, G, Q, ⟨hFK, hFf⟩, hS, hA, hN, hG, hC, hW, hQ, hKk⟩ := hE
  unfold wpX_take wpY_take wpX_first
  dsimp only
  rcases ez_ix v1 (n := 4) (by decide) with h | ⟨s, hs, rfl⟩
  · exact ez_sb h (br_t rfl (br_f (by decide) (ey_sb h (br_f (by decide) ⟨rfl, hR⟩))))
  have i4 : vp_in (nI s) 4 := vp_in_nI hs (by decide)
  have i16 : vp_in (nI (4 * s)) 16 := vp_in_nI (by omega) (by decide)
  obtain ⟨b, hb, hB, hI⟩ := hN s hs
  rw [nl_cl (show s < 2147483648 by omega), nl_m4, nl_cl (show 4 * s < 2147483648 by omega)]
  by_cases z : b = 0
  · have z' : a_inCount s = 0 := by rw [hB, z]; rfl
    exact ez_so hs (br_f (by decide) ⟨i4, br_t z' (br_f (by decide) (ey_so hs (br_t rfl ⟨i4, br_t z' ⟨rfl, hR⟩⟩)))⟩)
  have z' : ¬ a_inCount s = 0 := by rw [hB]; exact nI_ne0 (by omega) (by omega)
  obtain ⟨b0, rfl⟩ : ∃ b0, b = b0 + 1 := ⟨b - 1, by omega⟩
  obtain ⟨c, l, d1, d2, d3, d4, d5, d6, d7⟩ := hI 0 (by omega)
  rw [Nat.add_zero] at d4 d5 d6
  have N' := tk_N hN hs (by omega) hB
  have eB : a_inCount s - 1 = nI b0 := by rw [hB, nI_pred]
  rw [d4, d5, d6, nl_m32, nI_add, eB]
  refine ez_so hs (br_f (by decide) ⟨i4, br_f z' ⟨i16, i16, br_t (nI_pos' (by omega)) ⟨i4, i4, nm_e (nm_e ⟨b0 + 1, ?_⟩)⟩⟩⟩)
  refine tk_X29 (b0 := b0) hs (by omega) pk_us ?_ b0 0 _ _ (by omega) (ar_0 _ _ _).symm (ar_0 _ _ _).symm
  refine ey_so hs (br_t rfl ⟨i4, br_f z' ⟨i16, nm_e ⟨i4, i4, nm_e (nm_e ⟨b0 + 1, ?_⟩)⟩⟩⟩)
  refine tk_Y45 (b0 := b0) hs (by omega) pk_us ?_ b0 0 _ _ (by omega) (ar_0 _ _ _).symm (ar_0 _ _ _).symm
  exact ⟨rfl, i_up (rl_in ⟨F, m, n, w, ls, q, G, Q, ⟨hFK, hFf⟩, hS, hA, N', hG, hC, hW, hQ, hKk⟩)⟩
end
section
/-- no more places than pigeons -/
theorem po_pg : ∀ (N : Nat) (f : Nat → Nat), (∀ p, p ≤ N → ∃ t, t < N ∧ f t = p) → False := by
  intro N
  induction N with
  | zero =>
    intro f h
    obtain ⟨t, ht, _⟩ := h 0 (by omega)
    omega
  | succ N ih =>
    intro f h
    obtain ⟨t0, ht0, e0⟩ := h (N + 1) (by omega)
    refine ih (fun t => if t = t0 then f N else f t) (fun p hp => ?_)
    obtain ⟨t, ht, e⟩ := h p (by omega)
    have hne : t ≠ t0 := fun g => by rw [g, e0] at e; omega
    by_cases z : t = N
    · subst z
      refine ⟨t0, by omega, ?_⟩
      show (if t0 = t0 then f t else f t0) = p
      rw [if_pos rfl]
      exact e
    · refine ⟨t, by omega, ?_⟩
      show (if t = t0 then f N else f t) = p
      rw [if_neg hne]
      exact e
/-- a place is used -/
def po_U (w q : Nat → Nat) (wp qp : Nat → Nat → Nat) (p : Nat) : Prop := (∃ c j, c < 8 ∧ j < w c ∧ wp c j = p) ∨ ∃ s j, s < 4 ∧ j < q s ∧ qp s j = p
theorem po_find (w q : Nat → Nat) (wp qp : Nat → Nat → Nat) (hw : ∀ c, c < 8 → w c ≤ 2) (hq : ∀ s, s < 4 → q s ≤ 6) : ∃ p, p ≤ 40 ∧ ¬ po_U w q wp qp p ∧ ∀ j, j < p → po_U w q wp qp j := by
  have hex : ∃ p, p ≤ 40 ∧ ¬ po_U w q wp qp p := by
    refine Classical.byContradiction fun hn => ?_
    refine po_pg 40 (fun t => if t < 16 then wp (t / 2) (t % 2) else qp ((t - 16) / 6) ((t - 16) % 6)) (fun p hp => ?_)
    have hU : po_U w q wp qp p := Classical.not_not.mp (fun g => hn ⟨p, hp, g⟩)
    rcases hU with ⟨c, j, hc, hj, e⟩ | ⟨s, j, hs, hj, e⟩
    · have := hw c hc
      refine ⟨2 * c + j, by omega, ?_⟩
      show (if 2 * c + j < 16 then wp ((2 * c + j) / 2) ((2 * c + j) % 2) else _) = p
      rw [if_pos (by omega), show (2 * c + j) / 2 = c by omega, show (2 * c + j) % 2 = j by omega]
      exact e
    · have := hq s hs
      refine ⟨16 + (6 * s + j), by omega, ?_⟩
      show (if 16 + (6 * s + j) < 16 then _ else qp ((16 + (6 * s + j) - 16) / 6) ((16 + (6 * s + j) - 16) % 6)) = p
      rw [if_neg (by omega), show (16 + (6 * s + j) - 16) / 6 = s by omega, show (16 + (6 * s + j) - 16) % 6 = j by omega]
      exact e
  obtain ⟨p, ⟨hp, hpU⟩, hmin⟩ := pk_least (fun p => p ≤ 40 ∧ ¬ po_U w q wp qp p) hex
  exact ⟨p, hp, hpU, fun j hj => Classical.not_not.mp (fun g => hmin j hj ⟨by omega, g⟩)⟩
section
variable {f_buffered f_clock f_check b_frames : Int32} {a_isOpen a_from a_to a_gap a_tolerance a_due a_frames a_frameLength a_frameBytes a_nextCell a_number a_spoiledNumber a_buffer a_cell a_lastSent a_ahead a_which a_isWary a_queueCount a_queue a_inCount a_inCircuit a_inLength a_inBytes a_keptCount a_isSpoiled a_keptNumber a_kept a_counts b_waits b_waiting b_sentCells b_kept b_keptOf b_keptMixed b_keptTurned b_numbers b_circuits b_lengths b_spoiled b_bytes b_headAhead b_contentAhead b_queueFrame b_queueLast b_queueTurned b_boxHead b_boxBytes : Nat → Int32}
theorem po_X64 {post : Int32 → SX → Prop} {c f nb : Nat} (hc : c < 8) (hf : f < 16) (hnb : nb ≤ 27) (h : post (nI (cd_n nb)) (0, f_clock, f_check, a_isOpen, a_from, a_to, a_gap, a_tolerance, a_due, (upd a_frames c (a_frames c + 1)), a_frameLength, (ar_cp a_frameBytes (27 * f) nb a_buffer), a_nextCell, a_number, a_spoiledNumber, a_buffer, a_cell, a_lastSent, a_ahead, a_which, a_isWary, a_queueCount, a_queue, a_inCount, a_inCircuit, a_inLength, a_inBytes, a_keptCount, a_isSpoiled, a_keptNumber, a_kept, a_counts)) :
    ∀ (d i : Nat) (fb : Nat → Int32), i + d = nb → fb = ar_cp a_frameBytes (27 * f) i a_buffer → wX_post_64 post (nI c) (nI f) (nI nb) f_clock f_check (d + 1) (nI i) a_isOpen a_from a_to a_gap a_tolerance a_due a_frames a_frameLength fb a_nextCell a_number a_spoiledNumber a_buffer a_cell a_lastSent a_ahead a_which a_isWary a_queueCount a_queue a_inCount a_inCircuit a_inLength a_inBytes a_keptCount a_isSpoiled a_keptNumber a_kept a_counts := by
  have ec : (nI c).toNatClampNeg = c := nl_cl (by omega)
  have i8 : vp_in (nI c) 8 := vp_in_nI hc (by decide)
  intro d
  induction d with
  | zero =>
    intro i fb hi hfb
    obtain rfl : i = nb := by omega
    subst hfb
    have e12 : (nI i + 12) / 8 = nI (cd_n i) := by rw [nl_ar12, nl_d8 (by omega)]; rfl
    refine br_t (nI_le (Nat.le_refl _) (by omega)) ⟨i8, i8, nm_r (e' := upd a_frames c (a_frames c + 1)) (by rw [ec]) ?_⟩
    unfold wpX_cellsOf
    rw [e12]
    exact ⟨by decide, h⟩
  | succ d ih =>
    intro i fb hi hfb
    have e1 : 27 * nI f + nI i = nI (27 * f + i) := by rw [nl_m27, nI_add]
    refine br_f (nI_ge (by omega) (by omega)) ⟨vp_in_nI (by omega) (by decide), pk_in _ _ (by omega) e1, nm_e (nm_r (nI_1 i) (ih (i + 1) _ (by omega) ?_))⟩
    rw [e1, nl_cl (by omega), nl_cl (by omega), hfb]
    exact ar_S' rfl rfl
variable {w q : Nat → Nat} {wp qp : Nat → Nat → Nat}
theorem po_Y42 {post : Int32 → Prop} {p : Nat} (hp : p < 64) (hq : ∀ s, s < 4 → a_queueCount s = nI (q s) ∧ q s ≤ 6) (hqp : ∀ s, s < 4 → ∀ j, j < q s → qp s j < 64 ∧ b_queueFrame (6 * s + j) = nI (qp s j))
    (hT : (∃ s j, s < 4 ∧ j < q s ∧ qp s j = p) → post 1) (hF : (¬ ∃ s j, s < 4 ∧ j < q s ∧ qp s j = p) → post 0) :
    ∀ (d i : Nat), i + d = 24 → (∀ s j, s < 4 → j < q s → 6 * s + j < i → qp s j ≠ p) → wY_isPlaceUsed_42 post (nI p) f_clock f_buffered b_frames a_counts a_buffer a_isOpen a_from a_to a_gap a_tolerance a_due b_waits b_waiting b_sentCells b_kept b_keptOf b_keptMixed b_keptTurned b_numbers b_circuits b_lengths b_spoiled b_bytes a_lastSent b_headAhead b_contentAhead a_isWary a_queueCount b_queueFrame b_queueLast b_queueTurned a_inCount b_boxHead b_boxBytes (d + 1) (nI i) := by
  intro d
  induction d with
  | zero =>
    intro i hi hn
    obtain rfl : i = 24 := by omega
    exact br_t (nI_le (a := 24) (b := 24) (by omega) (by omega)) (hF (fun ⟨s, j, hs, hj, e⟩ => hn s j hs hj (by have := (hq s hs).2; omega) e))
  | succ d ih =>
    intro i hi hn
    refine br_f (nI_ge (b := 24) (by omega) (by omega)) ⟨by decide, by decide, ?_⟩
    rw [nl_r6 (by omega), nl_d6 (by omega), nl_cl (by omega), nl_cl (by omega)]
    obtain ⟨hq1, hq2⟩ := hq (i / 6) (by omega)
    rw [hq1]
    refine ⟨vp_in_nI (by omega) (by decide), pk_le (q (i / 6)) (i % 6) (fun e => ?_) (fun e => ⟨vp_in_nI (by omega) (by decide), ?_⟩)⟩
    · refine nm_r (nI_1 i) (ih (i + 1) (by omega) (fun s j hs hj hlt => ?_))
      by_cases ei : 6 * s + j = i
      · have := (hq s hs).2
        have e1 : i / 6 = s := by omega
        have e2 : i % 6 = j := by omega
        rw [e1, e2] at e
        omega
      · exact hn s j hs hj (by omega)
    · obtain ⟨g2, g3⟩ := hqp (i / 6) (by omega) (i % 6) e
      rw [show 6 * (i / 6) + i % 6 = i by omega] at g3
      rw [g3]
      refine pk_eq _ p (fun e2 => hT ⟨i / 6, i % 6, by omega, e, e2⟩) (fun e2 => nm_r (nI_1 i) (ih (i + 1) (by omega) (fun s j hs hj hlt => ?_)))
      by_cases ei : 6 * s + j = i
      · have := (hq s hs).2
        have e3 : i / 6 = s := by omega
        have e4 : i % 6 = j := by omega
        rw [e3, e4] at e2
        exact e2
      · exact hn s j hs hj (by omega)
theorem po_Y2 {post : Int32 → Prop} {p : Nat} (hp : p < 64) (hw : ∀ c, c < 8 → b_waits c = nI (w c) ∧ w c ≤ 2) (hwp : ∀ c, c < 8 → ∀ j, j < w c → wp c j < 64 ∧ b_waiting (2 * c + j) = nI (wp c j))
    (hT : (∃ c j, c < 8 ∧ j < w c ∧ wp c j = p) → post 1) (hF : (¬ ∃ c j, c < 8 ∧ j < w c ∧ wp c j = p) → ∃ n42, wY_isPlaceUsed_42 post (nI p) f_clock f_buffered b_frames a_counts a_buffer a_isOpen a_from a_to a_gap a_tolerance a_due b_waits b_waiting b_sentCells b_kept b_keptOf b_keptMixed b_keptTurned b_numbers b_circuits b_lengths b_spoiled b_bytes a_lastSent b_headAhead b_contentAhead a_isWary a_queueCount b_queueFrame b_queueLast b_queueTurned a_inCount b_boxHead b_boxBytes n42 0) :
    ∀ (d i : Nat), i + d = 16 → (∀ s j, s < 8 → j < w s → 2 * s + j < i → wp s j ≠ p) → wY_isPlaceUsed_2 post (nI p) f_clock f_buffered b_frames a_counts a_buffer a_isOpen a_from a_to a_gap a_tolerance a_due b_waits b_waiting b_sentCells b_kept b_keptOf b_keptMixed b_keptTurned b_numbers b_circuits b_lengths b_spoiled b_bytes a_lastSent b_headAhead b_contentAhead a_isWary a_queueCount b_queueFrame b_queueLast b_queueTurned a_inCount b_boxHead b_boxBytes (d + 1) (nI i) := by
  intro d
  induction d with
  | zero =>
    intro i hi hn
    obtain rfl : i = 16 := by omega
    exact br_t (nI_le (a := 16) (b := 16) (by omega) (by omega)) (hF (fun ⟨s, j, hs, hj, e⟩ => hn s j hs hj (by have := (hw s hs).2; omega) e))
  | succ d ih =>
    intro i hi hn
    refine br_f (nI_ge (b := 16) (by omega) (by omega)) ⟨by decide, by decide, ?_⟩
    rw [nl_r2 (by omega), nl_d2 (by omega), nl_cl (by omega), nl_cl (by omega)]
    obtain ⟨hq1, hq2⟩ := hw (i / 2) (by omega)
    rw [hq1]
    refine ⟨vp_in_nI (by omega) (by decide), pk_le (w (i / 2)) (i % 2) (fun e => ?_) (fun e => ⟨vp_in_nI (by omega) (by decide), ?_⟩)⟩
    · refine nm_r (nI_1 i) (ih (i + 1) (by omega) (fun s j hs hj hlt => ?_))
      by_cases ei : 2 * s + j = i
      · have := (hw s hs).2
        have e1 : i / 2 = s := by omega
        have e2 : i % 2 = j := by omega
        rw [e1, e2] at e
        omega
      · exact hn s j hs hj (by omega)
    · obtain ⟨g2, g3⟩ := hwp (i / 2) (by omega) (i % 2) e
      rw [show 2 * (i / 2) + i % 2 = i by omega] at g3
      rw [g3]
      refine pk_eq _ p (fun e2 => hT ⟨i / 2, i % 2, by omega, e, e2⟩) (fun e2 => nm_r (nI_1 i) (ih (i + 1) (by omega) (fun s j hs hj hlt => ?_)))
      by_cases ei : 2 * s + j = i
      · have := (hw s hs).2
        have e3 : i / 2 = s := by omega
        have e4 : i % 2 = j := by omega
        rw [e3, e4] at e2
        exact e2
      · exact hn s j hs hj (by omega)
theorem po_used {post : Int32 → Prop} {p : Nat} (hp : p < 64) (hw : ∀ c, c < 8 → b_waits c = nI (w c) ∧ w c ≤ 2) (hwp : ∀ c, c < 8 → ∀ j, j < w c → wp c j < 64 ∧ b_waiting (2 * c + j) = nI (wp c j))
    (hq : ∀ s, s < 4 → a_queueCount s = nI (q s) ∧ q s ≤ 6) (hqp : ∀ s, s < 4 → ∀ j, j < q s → qp s j < 64 ∧ b_queueFrame (6 * s + j) = nI (qp s j))
    (hT : po_U w q wp qp p → post 1) (hF : ¬ po_U w q wp qp p → post 0) : wpY_isPlaceUsed post (f_clock, f_buffered, b_frames, a_counts, a_buffer, a_isOpen, a_from, a_to, a_gap, a_tolerance, a_due, b_waits, b_waiting, b_sentCells, b_kept, b_keptOf, b_keptMixed, b_keptTurned, b_numbers, b_circuits, b_lengths, b_spoiled, b_bytes, a_lastSent, b_headAhead, b_contentAhead, a_isWary, a_queueCount, b_queueFrame, b_queueLast, b_queueTurned, a_inCount, b_boxHead, b_boxBytes) (nI p) :=
  ⟨17, po_Y2 hp hw hwp (fun g => hT (Or.inl g)) (fun g1 => ⟨25, po_Y42 hp hq hqp (fun g => hT (Or.inr g)) (fun g2 => hF (fun g => g.elim g1 g2)) 24 0 rfl (fun _ _ _ _ h => absurd h (by omega))⟩) 16 0 rfl (fun _ _ _ _ h => absurd h (by omega))⟩
theorem po_Y104 {post : Int32 → SY → Prop} {c p nb wc : Nat} (hc : c < 8) (hp : p < 64) (hnb : nb ≤ 27) (hw : wc < 2) (hW : b_waits c = nI wc) (hL : b_lengths p = nI nb)
    (h : post (nI (cd_n nb)) (f_clock, 0, b_frames, a_counts, a_buffer, a_isOpen, a_from, a_to, a_gap, a_tolerance, a_due, (upd b_waits c (nI (wc + 1))), (upd b_waiting (2 * c + wc) (nI p)), b_sentCells, b_kept, b_keptOf, b_keptMixed, b_keptTurned, b_numbers, b_circuits, b_lengths, b_spoiled, (ar_cp b_bytes (27 * p) nb a_buffer), a_lastSent, b_headAhead, b_contentAhead, a_isWary, a_queueCount, b_queueFrame, b_queueLast, b_queueTurned, a_inCount, b_boxHead, b_boxBytes)) :
    ∀ (d i : Nat) (by' : Nat → Int32), i + d = nb → by' = ar_cp b_bytes (27 * p) i a_buffer → wY_post_104 post (nI c) (nI p) f_clock (nI nb) b_frames (d + 1) (nI i) a_counts a_buffer a_isOpen a_from a_to a_gap a_tolerance a_due b_waits b_waiting b_sentCells b_kept b_keptOf b_keptMixed b_keptTurned b_numbers b_circuits b_lengths b_spoiled by' a_lastSent b_headAhead b_contentAhead a_isWary a_queueCount b_queueFrame b_queueLast b_queueTurned a_inCount b_boxHead b_boxBytes := by
  have ec : (nI c).toNatClampNeg = c := nl_cl (by omega)
  have i8 : vp_in (nI c) 8 := vp_in_nI hc (by decide)
  intro d
  induction d with
  | zero =>
    intro i by' hi hby
    obtain rfl : i = nb := by omega
    subst hby
    have e1 : 2 * nI c + b_waits (nI c).toNatClampNeg = nI (2 * c + wc) := by rw [ec, hW, nl_m2, nI_add]
    refine br_t (nI_le (Nat.le_refl _) (by omega)) ⟨i8, pk_in _ _ (by omega) e1, nm_r (e' := upd b_waiting (2 * c + wc) (nI p)) (by rw [e1, nl_cl (by omega)]) ⟨i8, i8, nm_r (e' := upd b_waits c (nI (wc + 1))) (by rw [ec, hW, nI_1]) ?_⟩⟩
    exact yw_cells hp hL hnb h
  | succ d ih =>
    intro i by' hi hby
    have e1 : 27 * nI p + nI i = nI (27 * p + i) := by rw [nl_m27, nI_add]
    refine br_f (nI_ge (by omega) (by omega)) ⟨vp_in_nI (by omega) (by decide), pk_in _ _ (by omega) e1, nm_e (nm_r (nI_1 i) (ih (i + 1) _ (by omega) ?_))⟩
    rw [e1, nl_cl (by omega), nl_cl (by omega), hby]
    exact ar_S' rfl rfl
theorem po_Y44 {post : Int32 → SY → Prop} {c p nb wc : Nat} (hc : c < 8) (hp : p < 64) (hnb : nb ≤ 27) (hwc : wc < 2) (hB : f_buffered = nI nb) (hWc : b_waits c = nI wc)
    (hw : ∀ c, c < 8 → b_waits c = nI (w c) ∧ w c ≤ 2) (hwp : ∀ c, c < 8 → ∀ j, j < w c → wp c j < 64 ∧ b_waiting (2 * c + j) = nI (wp c j))
    (hq : ∀ s, s < 4 → a_queueCount s = nI (q s) ∧ q s ≤ 6) (hqp : ∀ s, s < 4 → ∀ j, j < q s → qp s j < 64 ∧ b_queueFrame (6 * s + j) = nI (qp s j))
    (hpU : ¬ po_U w q wp qp p) (hmin : ∀ j, j < p → po_U w q wp qp j)
    (h : post (nI (cd_n nb)) (f_clock, 0, (b_frames + 1), a_counts, a_buffer, a_isOpen, a_from, a_to, a_gap, a_tolerance, a_due, (upd b_waits c (nI (wc + 1))), (upd b_waiting (2 * c + wc) (nI p)), b_sentCells, b_kept, b_keptOf, b_keptMixed, b_keptTurned, (upd b_numbers p (b_frames + 1)), (upd b_circuits p (nI c)), (upd b_lengths p (nI nb)), (upd b_spoiled p 0), (ar_cp b_bytes (27 * p) nb a_buffer), a_lastSent, b_headAhead, b_contentAhead, a_isWary, a_queueCount, b_queueFrame, b_queueLast, b_queueTurned, a_inCount, b_boxHead, b_boxBytes)) :
    ∀ (d i : Nat), i + d = p → wY_post_44 post (nI c) f_clock f_buffered b_frames a_counts a_buffer a_isOpen a_from a_to a_gap a_tolerance a_due b_waits b_waiting b_sentCells b_kept b_keptOf b_keptMixed b_keptTurned b_numbers b_circuits b_lengths b_spoiled b_bytes a_lastSent b_headAhead b_contentAhead a_isWary a_queueCount b_queueFrame b_queueLast b_queueTurned a_inCount b_boxHead b_boxBytes (d + 1) (nI i) := by
  have ep : (nI p).toNatClampNeg = p := nl_cl (by omega)
  have i64 : vp_in (nI p) 64 := vp_in_nI hp (by decide)
  subst hB
  intro d
  induction d with
  | zero =>
    intro i hi
    obtain rfl : i = p := by omega
    refine po_used (w := w) (q := q) (wp := wp) (qp := qp) hp hw hwp hq hqp (fun g => absurd g hpU) (fun _ => br_t rfl (nm_e ?_))
    rw [ep, nl_b0]
    refine ⟨i64, nm_e ⟨i64, nm_e ⟨i64, nm_e ⟨i64, nm_e ⟨nb + 1, ?_⟩⟩⟩⟩⟩
    exact po_Y104 hc hp hnb hwc hWc pk_us h nb 0 _ (by omega) (ar_0 _ _ _).symm
  | succ d ih =>
    intro i hi
    exact po_used (w := w) (q := q) (wp := wp) (qp := qp) (by omega) hw hwp hq hqp (fun _ => br_f (by decide) (nm_r (nI_1 i) (ih (i + 1) (by omega)))) (fun g => absurd (hmin i (by omega)) g)
end
end
section
theorem po_rel {m n w ls : Nat → Nat} {G G' : rg_T} {q : Nat → Nat} {Q : Nat → Nat → Nat × Nat × Nat} {F c p nb : Nat} {a_buffer a_isOpen a_to a_frames b_waits a_nextCell b_sentCells a_number a_spoiledNumber b_waiting a_frameLength a_frameBytes b_spoiled a_queueCount a_queue b_queueFrame b_queueLast b_queueTurned a_keptCount a_isSpoiled a_keptNumber a_kept b_kept b_keptOf b_keptMixed b_keptTurned b_numbers b_circuits b_lengths b_bytes : Nat → Int32}
    (hF : F ≤ 2560) (hc : c < 8) (ho : ¬ a_isOpen c = 0) (hwc : w c < 2) (hn1 : 1 ≤ nb) (hn2 : nb ≤ 27) (hbuf : ∀ i, cd_B (a_buffer i)) (hp : p < 64)
    (hg' : G' = fun y => if y = F + 1 then (c, m c + w c, nb, p, a_buffer) else G y)
    (hpW : ∀ c', c' < 8 → ∀ j, j < w c' → ¬ b_waiting (2 * c' + j) = nI p) (hpQ : ∀ s, s < 4 → ∀ j, j < q s → rg_P G (rq_y (Q s j)) ≠ p)
    (hG : rl_G F m w G) (hC : rl_C m n w a_isOpen a_frames b_waits a_nextCell b_sentCells a_number a_spoiledNumber)
    (hW : rl_W G (rl_V F G b_numbers b_circuits b_lengths b_bytes) m n w b_waiting a_frameLength a_frameBytes b_spoiled a_spoiledNumber)
    (hQ : rl_Q G (rl_V F G b_numbers b_circuits b_lengths b_bytes) (rl_st m n) ls q Q a_isOpen a_to a_queueCount a_queue b_queueFrame b_queueLast b_queueTurned)
    (hK : rl_K F G (rl_st m n) ls a_isOpen a_keptCount a_isSpoiled a_keptNumber a_kept b_kept b_keptOf b_keptMixed b_keptTurned) :
    rl_G (F + 1) m (rl_u w c (w c + 1)) G' ∧
    rl_C m n (rl_u w c (w c + 1)) a_isOpen (upd a_frames c (nI (w c + 1))) (upd b_waits c (nI (w c + 1))) a_nextCell b_sentCells a_number a_spoiledNumber ∧
    rl_W G' (rl_V (F + 1) G' (upd b_numbers p (nI (F + 1))) (upd b_circuits p (nI c)) (upd b_lengths p (nI nb)) (ar_cp b_bytes (27 * p) nb a_buffer)) m n (rl_u w c (w c + 1)) (upd b_waiting (2 * c + w c) (nI p)) (upd a_frameLength (2 * c + w c) (nI nb)) (ar_cp a_frameBytes (27 * (2 * c + w c)) nb a_buffer) (upd b_spoiled p 0) a_spoiledNumber ∧
    rl_Q G' (rl_V (F + 1) G' (upd b_numbers p (nI (F + 1))) (upd b_circuits p (nI c)) (upd b_lengths p (nI nb)) (ar_cp b_bytes (27 * p) nb a_buffer)) (rl_st m n) ls q Q a_isOpen a_to a_queueCount a_queue b_queueFrame b_queueLast b_queueTurned ∧
    rl_K (F + 1) G' (rl_st m n) ls a_isOpen a_keptCount a_isSpoiled a_keptNumber a_kept b_kept b_keptOf b_keptMixed b_keptTurned := by
  have hold : ∀ y, y ≤ F → G' y = G y := fun y hy => by
    rw [hg']
    exact if_neg (by omega)
  have hnew : G' (F + 1) = (c, m c + w c, nb, p, a_buffer) := by
    rw [hg']
    exact if_pos rfl
  have hnC : rg_C G' (F + 1) = c := by unfold rg_C; rw [hnew]
  have hnX : rg_X G' (F + 1) = m c + w c := by unfold rg_X; rw [hnew]
  have hnL : rg_L G' (F + 1) = nb := by unfold rg_L; rw [hnew]
  have hnP : rg_P G' (F + 1) = p := by unfold rg_P; rw [hnew]
  have hnB : rg_B G' (F + 1) = a_buffer := by unfold rg_B; rw [hnew]
  have oC : ∀ y, y ≤ F → rg_C G' y = rg_C G y := fun y hy => by unfold rg_C; rw [hold y hy]
  have oX : ∀ y, y ≤ F → rg_X G' y = rg_X G y := fun y hy => by unfold rg_X; rw [hold y hy]
  have oL : ∀ y, y ≤ F → rg_L G' y = rg_L G y := fun y hy => by unfold rg_L; rw [hold y hy]
  have oP : ∀ y, y ≤ F → rg_P G' y = rg_P G y := fun y hy => by unfold rg_P; rw [hold y hy]
  have oB : ∀ y, y ≤ F → rg_B G' y = rg_B G y := fun y hy => by unfold rg_B; rw [hold y hy]
  have hV : ∀ y, rl_V F G b_numbers b_circuits b_lengths b_bytes y → rg_P G y ≠ p → rl_V (F + 1) G' (upd b_numbers p (nI (F + 1))) (upd b_circuits p (nI c)) (upd b_lengths p (nI nb)) (ar_cp b_bytes (27 * p) nb a_buffer) y := by
    intro y ⟨v1, v2, v3, v4, v5, v6, v7⟩ hne
    have hL27 := (hG.1 y).2.2.1
    unfold rl_V
    rw [oC y v2, oL y v2, oP y v2, oB y v2, pk_un hne, pk_un hne, pk_un hne]
    refine ⟨v1, by omega, v3, v4, v5, v6, fun i hi => ?_⟩
    rw [ar_out _ _ (by omega)]
    exact v7 i hi
  have hVn : rl_V (F + 1) G' (upd b_numbers p (nI (F + 1))) (upd b_circuits p (nI c)) (upd b_lengths p (nI nb)) (ar_cp b_bytes (27 * p) nb a_buffer) (F + 1) := by
    unfold rl_V
    rw [hnC, hnL, hnP, hnB, pk_us, pk_us, pk_us]
    exact ⟨by omega, Nat.le_refl _, hp, rfl, rfl, rfl, fun i hi => ar_in _ _ _ _ hi⟩
  have hmw := hG.2.2.2 c
  obtain ⟨c1, c2, c3, c4, c5⟩ := hC c hc
  obtain ⟨f1, f2, f3, f4, f5, f6⟩ := c5 ho
  refine ⟨⟨fun y => ?_, fun y y' h1 h2 h3 h4 e1 e2 => ?_, fun y h1 h2 => ?_, fun c' => ?_⟩, fun c' hc' => ?_, fun c' hc' j hj => ?_, ⟨hQ.1, fun s hs j hj => ?_, fun s hs i j hij hj => ?_, fun s hs j hj => ?_⟩, fun c' hc' ho' => ?_⟩
  · by_cases e : y = F + 1
    · subst e
      rw [hnC, hnL, hnB]
      exact ⟨hc, hn1, hn2, hbuf⟩
    · have e1 : G' y = G y := by rw [hg']; exact if_neg e
      unfold rg_C rg_L rg_B
      rw [e1]
      exact hG.1 y
  · by_cases z : y = F + 1
    · subst z
      by_cases z' : y' = F + 1
      · exact z'.symm
      · rw [hnC, oC y' (by omega)] at e1
        rw [hnX, oX y' (by omega)] at e2
        have := hG.2.2.1 y' h3 (by omega)
        rw [← e1] at this
        omega
    · by_cases z' : y' = F + 1
      · subst z'
        rw [hnC, oC y (by omega)] at e1
        rw [hnX, oX y (by omega)] at e2
        have := hG.2.2.1 y h1 (by omega)
        rw [e1] at this
        omega
      · rw [oC y (by omega), oC y' (by omega)] at e1
        rw [oX y (by omega), oX y' (by omega)] at e2
        exact hG.2.1 y y' h1 (by omega) h3 (by omega) e1 e2
  · by_cases e : y = F + 1
    · subst e
      rw [hnC, hnX, rl_us]
      omega
    · rw [oC y (by omega), oX y (by omega)]
      have := hG.2.2.1 y h1 (by omega)
      by_cases e2 : rg_C G y = c
      · rw [e2] at this
        rw [e2, rl_us]
        omega
      · rw [rl_un _ _ e2]
        exact this
  · have := hG.2.2.2 c'
    by_cases e2 : c' = c
    · rw [e2, rl_us]
      omega
    · rw [rl_un _ _ e2]
      omega
  · by_cases e : c' = c
    · subst e
      rw [rl_us, pk_us, pk_us]
      exact ⟨by omega, rfl, c3, fun g => absurd g ho, fun _ => ⟨rfl, f2, f3, fun g => absurd g (by omega), f5, f6⟩⟩
    · rw [rl_un _ _ e, pk_un e, pk_un e]
      exact hC c' hc'
  · by_cases e : c' = c ∧ j = w c
    · obtain ⟨rfl, rfl⟩ := e
      refine ⟨F + 1, hVn, hnC, hnX, by rw [pk_us, hnP], by rw [pk_us, hnL], fun i hi => ?_, fun z => ?_, ?_⟩
      · rw [hnL] at hi
        rw [hnB]
        exact ar_in _ _ _ _ hi
      · rw [hnL, f4 z]
        have := cd_n_in hn2
        omega
      · rw [hnP, hnX, pk_us]
        refine ⟨fun _ g => ?_, fun _ => rfl⟩
        rcases f6 with f6 | ⟨zz, f6, f7⟩
        · rw [f6] at g
          have : ¬ nI (m c' + w c') < 0 := nI_pos (by omega)
          rw [← g] at this
          exact this (by decide)
        · rw [f6, nI_eq (by omega) (by omega)] at g
          have : w c' = 0 := by omega
          have := f4 this
          omega
    · have hj' : j < w c' := by
        by_cases e2 : c' = c
        · subst e2
          rw [rl_us] at hj
          have : j ≠ w c' := fun g => e ⟨rfl, g⟩
          omega
        · rwa [rl_un _ _ e2] at hj
      have hw2 := (hC c' hc').1
      have hne : 2 * c' + j ≠ 2 * c + w c := by omega
      obtain ⟨y1, v1, v2, v3, v4, v5, v6, v7, v8⟩ := hW c' hc' j hj'
      have hyF := v1.2.1
      have hL27 := (hG.1 y1).2.2.1
      have hPne : rg_P G y1 ≠ p := fun g => hpW c' hc' j hj' (by rw [v4, g])
      refine ⟨y1, hV y1 v1 hPne, ?_⟩
      rw [oC y1 hyF, oX y1 hyF, oL y1 hyF, oP y1 hyF, oB y1 hyF, pk_un hne, pk_un hne, pk_un hPne]
      refine ⟨v2, v3, v4, v5, fun i hi => ?_, v7, v8⟩
      rw [ar_out _ _ (by omega)]
      exact v6 i hi
  · have h0 := hQ.2.1 s hs j hj
    have hyF := h0.1.2.1
    have hv := hV _ h0.1 (hpQ s hs j hj)
    unfold rl_e1 at h0 ⊢
    rw [oC _ hyF, oX _ hyF, oL _ hyF, oP _ hyF, oB _ hyF]
    exact ⟨hv, h0.2⟩
  · have y1 := (hQ.2.1 s hs i (by omega)).1.2.1
    have y2 := (hQ.2.1 s hs j hj).1.2.1
    unfold rq_t
    rw [oC _ y1, oC _ y2, oX _ y1, oX _ y2]
    exact hQ.2.2.1 s hs i j hij hj
  · have y2 := (hQ.2.1 s hs j hj).1.2.1
    unfold rq_t
    rw [oC _ y2, oX _ y2]
    exact hQ.2.2.2 s hs j hj
  · obtain ⟨kc, k1, k2, k3, k4, k5, k6, k7⟩ := hK c' hc' ho'
    refine ⟨kc, k1, k2, k3, k4, k5, k6, fun z1 z2 => ?_⟩
    obtain ⟨y0, k0, b1, b2, b3⟩ := k7 z1 z2
    refine ⟨y0, k0, b1, by omega, ?_⟩
    rw [oC _ b2, oX _ b2, oL _ b2, oB _ b2]
    exact b3
theorem i_vc_post {k : Nat} {u : SX} {v : SY} (I : i_Rel k u v) (hk : k + 5 ≤ 2560) (v1 : Int32) : wpX_post (fun r u' => wpY_post (fun r' v' => r' = r ∧ i_Rel (k + 5) u' v') v v1) u v1 := by
  refine rl_el (P := fun u v => wpX_post (fun r u' => wpY_post (fun r' v' => r' = r ∧ i_Rel (k + 5) u' v') v v1) u v1) ?_ I
  intro f_buffered f_clock f_check a_isOpen a_from a_to a_gap a_tolerance a_due a_frames a_frameLength a_frameBytes a_nextCell a_number a_spoiledNumber a_buffer a_cell a_lastSent a_ahead a_which a_isWary a_queueCount a_queue a_inCount a_inCircuit a_inLength a_inBytes a_keptCount a_isSpoiled a_keptNumber a_kept a_counts b_frames b_waits b_waiting b_sentCells b_kept b_keptOf b_keptMixed b_keptTurned b_numbers b_circuits b_lengths b_spoiled b_bytes b_headAhead b_contentAhead b_queueFrame b_queueLast b_queueTurned b_boxHead b_boxBytes
  intro hE
  have hR := i_up (rl_in hE)
  obtain ⟨F, m, n, w, ls, q, G, Q, ⟨hFK, hFf⟩, ⟨⟨nb, hnb, hNB⟩, hBf, hLS, hTO⟩, hA, hN, hG, hC, hW, hQ, hKk⟩ := hE
  subst hNB
  unfold wpX_post wpY_post
  dsimp only
  rcases ez_ix v1 (n := 8) (by decide) with h | ⟨c, hc, rfl⟩
  · exact ez_cb h (br_t rfl (ey_cb h (br_f (by decide) ⟨rfl, hR⟩)))
  have i8 : vp_in (nI c) 8 := vp_in_nI hc (by decide)
  have ec : (nI c).toNatClampNeg = c := nl_cl (by omega)
  rw [ec]
  refine ez_co hc (br_f (by decide) ⟨i8, ?_⟩)
  by_cases o : a_isOpen c = 0
  · exact br_t o (ey_co hc (br_t rfl ⟨i8, br_t o ⟨rfl, hR⟩⟩))
  refine br_f o ?_
  by_cases z : nb = 0
  · have z' : nI nb = 0 := by rw [z]; rfl
    exact br_t z' (ey_co hc (br_t rfl ⟨i8, br_f o (br_t z' ⟨rfl, hR⟩)⟩))
  have z' : ¬ nI nb = 0 := nI_ne0 (by omega) (by omega)
  obtain ⟨c1, c2, c3, c4, c5⟩ := hC c hc
  obtain ⟨f1, f2, f3, f4, f5, f6⟩ := c5 o
  refine br_f z' ⟨i8, ?_⟩
  rw [f1]
  by_cases hw : w c < 2
  · refine br_t (nI_lt (b := 2) hw (by decide)) ⟨i8, nm_r (e' := nI (2 * c + w c)) (by rw [nl_m2, nI_add]) ⟨vp_in_nI (by omega) (by decide), nm_r (e' := upd a_frameLength (2 * c + w c) (nI nb)) (by rw [nl_cl (by omega)]) ⟨nb + 1, ?_⟩⟩⟩
    refine po_X64 hc (by omega) hnb ?_ nb 0 _ (by omega) (ar_0 _ _ _).symm
    rw [f1, nI_1]
    have hwp : ∀ c, c < 8 → ∀ j, j < w c → (b_waiting (2 * c + j)).toNatClampNeg < 64 ∧ b_waiting (2 * c + j) = nI (b_waiting (2 * c + j)).toNatClampNeg := fun c' hc' j hj => by
      obtain ⟨y1, g1, _, _, g4, _⟩ := hW c' hc' j hj
      have := g1.2.2.1
      rw [g4, nl_cl (by omega)]
      exact ⟨this, rfl⟩
    have hqp : ∀ s, s < 4 → ∀ j, j < q s → rg_P G (rq_y (Q s j)) < 64 ∧ b_queueFrame (6 * s + j) = nI (rg_P G (rq_y (Q s j))) := fun s hs j hj => by
      obtain ⟨u1, u2, u3, u4, u5, u6, _⟩ := hQ.2.1 s hs j hj
      exact ⟨u1.2.2.1, u6⟩
    obtain ⟨p, hp, hpU, hmin⟩ := po_find w q (fun c j => (b_waiting (2 * c + j)).toNatClampNeg) (fun s j => rg_P G (rq_y (Q s j))) (fun c' hc' => (hC c' hc').1) (fun s hs => (hQ.1 s hs).2)
    have hpW : ∀ c', c' < 8 → ∀ j, j < w c' → ¬ b_waiting (2 * c' + j) = nI p := fun c' hc' j hj g => hpU (Or.inl ⟨c', j, hc', hj, by show (b_waiting (2 * c' + j)).toNatClampNeg = p; rw [g]; exact nl_cl (by omega)⟩)
    have hpQ : ∀ s, s < 4 → ∀ j, j < q s → rg_P G (rq_y (Q s j)) ≠ p := fun s hs j hj g => hpU (Or.inr ⟨s, j, hs, hj, g⟩)
    obtain ⟨G1, C1, W1, Q1, K1⟩ := po_rel (by omega) hc o hw (by omega) hnb hBf (by omega : p < 64) rfl hpW hpQ hG hC hW hQ hKk
    have hFf' : b_frames + 1 = nI (F + 1) := by rw [hFf, nI_1]
    refine ey_co hc (br_t rfl ⟨i8, br_f o (br_f z' ⟨i8, br_f (by rw [c2]; exact fun g => absurd ((nI_eq (b := 2) (by omega) (by decide)).mp g) (by omega)) ⟨p + 1, ?_⟩⟩)⟩)
    refine po_Y44 (w := w) (q := q) (wp := fun c j => (b_waiting (2 * c + j)).toNatClampNeg) (qp := fun s j => rg_P G (rq_y (Q s j))) hc (by omega) hnb hw rfl c2 (fun c' hc' => ⟨(hC c' hc').2.1, (hC c' hc').1⟩) hwp hQ.1 hqp hpU hmin ?_ p 0 (by omega)
    rw [hFf']
    exact ⟨rfl, rl_in ⟨F + 1, m, n, _, ls, q, _, Q, ⟨by omega, rfl⟩, ⟨⟨0, by omega, rfl⟩, hBf, hLS, hTO⟩, hA, hN, G1, C1, W1, Q1, K1⟩⟩
  · have e2 : w c = 2 := by omega
    exact br_f (nI_nlt (b := 2) (by omega) (by omega)) (ey_co hc (br_t rfl ⟨i8, br_f o (br_f z' ⟨i8, br_t (by rw [c2, e2]; rfl) ⟨rfl, hR⟩⟩)⟩))
end

section
/-! pure rows to paste: stores, nI and lN arithmetic, masks, shifts, narrowing, branches by naturals (pk_le, pk_lt, pk_eq), loops (lp1 .. lp16: the measure of the state; rp1 ..: recursion), negatives. Take what you need -/
theorem pk_us {f : Nat → Int32} {k : Nat} {x : Int32} : upd f k x k = x := if_pos rfl
theorem pk_un {f : Nat → Int32} {k j : Nat} {x : Int32} (h : j ≠ k) : upd f k x j = f j := if_neg h
theorem pk_uLs {f : Nat → Int64} {k : Nat} {x : Int64} : vp_updL f k x k = x := if_pos rfl
theorem pk_uLn {f : Nat → Int64} {k j : Nat} {x : Int64} (h : j ≠ k) : vp_updL f k x j = f j := if_neg h
theorem pk_sub {a b : Nat} (h : b ≤ a) : nI a - nI b = nI (a - b) := by
  obtain ⟨c, rfl⟩ : ∃ c, a = c + b := ⟨a - b, by omega⟩
  rw [← nI_add, Int32.add_sub_cancel, Nat.add_sub_cancel]
theorem pk_m1 (n : Nat) : nI (n + 1) + (-1) = nI n := by
  rw [← nI_1, Int32.add_assoc, show (1 : Int32) + (-1) = 0 from rfl, Int32.add_zero]
theorem pk_mul (a b : Nat) : nI a * nI b = nI (a * b) := (Int32.ofNat_mul a b).symm
theorem pk_div {a d : Nat} (ha : a < 2 ^ 31) (h0 : 0 < d) (hd : d < 2 ^ 31) : nI a / nI d = nI (a / d) := by
  apply Int32.toInt_inj.mp
  rw [lg_idiv_nonneg (by rw [nI_toInt ha]; omega) (by rw [nI_toInt hd]; omega), nI_toInt ha, nI_toInt hd, nI_toInt (Nat.lt_of_le_of_lt (Nat.div_le_self a d) ha)]
  first | rfl | exact (Int.natCast_ediv _ _).symm
theorem pk_rem {a d : Nat} (ha : a < 2 ^ 31) (h0 : 0 < d) (hd : d < 2 ^ 31) : nI a - nI a / nI d * nI d = nI (a % d) := by
  rw [pk_div ha h0 hd, pk_mul, pk_sub (Nat.div_mul_le_self a d)]
  exact congrArg nI (by have := Nat.div_add_mod' a d; omega)
theorem pk_sub_toInt {a b : Nat} (ha : a < 2 ^ 30) (hb : b < 2 ^ 30) : (nI a - nI b).toInt = (a : Int) - b := by
  rw [Int32.toInt_sub, nI_toInt (by omega), nI_toInt (by omega)]
  exact Int.bmod_eq_of_le (by omega) (by omega)
theorem pk_sneg {a b : Nat} (hb : b < 2 ^ 30) (h : a < b) : nI a - nI b < 0 := by
  rw [Int32.lt_iff_toInt_lt, pk_sub_toInt (by omega) hb, show (0 : Int32).toInt = 0 from by decide]
  omega
theorem pk_ix (x : Int32) {n : Nat} (hn : n < 2 ^ 31) : x < 0 ∨ nI n ≤ x ∨ ∃ j : Nat, j < n ∧ x = nI j := by
  by_cases h : x < 0
  · exact Or.inl h
  · obtain ⟨j, hj, rfl⟩ := nI_of h
    by_cases h2 : j < n
    · exact Or.inr (Or.inr ⟨j, h2, rfl⟩)
    · exact Or.inr (Or.inl (nI_le (by omega) hj))
theorem pk_le {x y : Int32} {A B : Prop} (a b : Nat) (f : a ≤ b → A) (g : b < a → B) (hx : x = nI a := by rfl) (hy : y = nI b := by rfl) (ha : a < 2 ^ 31 := by omega) (hb : b < 2 ^ 31 := by omega) : (x ≤ y → A) ∧ (¬ x ≤ y → B) := by
  subst hx hy
  rw [nI_leI ha hb]
  exact ⟨f, fun z => g (by omega)⟩
theorem pk_lt {x y : Int32} {A B : Prop} (a b : Nat) (f : a < b → A) (g : b ≤ a → B) (hx : x = nI a := by rfl) (hy : y = nI b := by rfl) (ha : a < 2 ^ 31 := by omega) (hb : b < 2 ^ 31 := by omega) : (x < y → A) ∧ (¬ x < y → B) := by
  subst hx hy
  rw [nI_ltI ha hb]
  exact ⟨f, fun z => g (by omega)⟩
theorem pk_eq {x y : Int32} {A B : Prop} (a b : Nat) (f : a = b → A) (g : a ≠ b → B) (hx : x = nI a := by rfl) (hy : y = nI b := by rfl) (ha : a < 2 ^ 31 := by omega) (hb : b < 2 ^ 31 := by omega) : (x = y → A) ∧ (¬ x = y → B) := by
  subst hx hy
  rw [nI_eq ha hb]
  exact ⟨f, g⟩
theorem pk_in {x : Int32} (n N : Nat) (h : n < N) (hx : x = nI n := by rfl) (hN : N < 2 ^ 31 := by omega) : vp_in x N := by
  subst hx
  exact vp_in_nI h hN
theorem pk_cl {x : Int32} (n : Nat) (hx : x = nI n := by rfl) (h : n < 2 ^ 31 := by omega) : x.toNatClampNeg = n := by
  subst hx
  exact nI_clamp h
theorem pk_tn {n : Nat} (h : n < 2 ^ 32) : (nI n).toBitVec.toNat = n := Nat.mod_eq_of_lt h
theorem pk_and (x : Int32) {m : Int32} (k : Nat) (hm : m.toBitVec.toNat = 2 ^ k - 1) : x &&& m = nI (x.toBitVec.toNat % 2 ^ k) := by
  apply Int32.toBitVec_inj.mp
  apply BitVec.eq_of_toNat_eq
  rw [Int32.toBitVec_and, BitVec.toNat_and, hm, Nat.and_two_pow_sub_one_eq_mod]
  show _ = (BitVec.ofNat 32 _).toNat
  rw [BitVec.toNat_ofNat]
  exact (Nat.mod_eq_of_lt (Nat.lt_of_le_of_lt (Nat.mod_le _ _) x.toBitVec.isLt)).symm
theorem pk_andN {n : Nat} (h : n < 2 ^ 32) {m : Int32} (k : Nat) (hm : m.toBitVec.toNat = 2 ^ k - 1) : nI n &&& m = nI (n % 2 ^ k) := by
  rw [pk_and _ k hm, pk_tn h]
theorem pk_andE (x : Int32) {m : Int32} (k : Nat) (hm : m.toBitVec.toNat = 2 ^ k - 1) : ∃ j : Nat, j < 2 ^ k ∧ x &&& m = nI j := ⟨_, Nat.mod_lt _ (Nat.two_pow_pos k), pk_and x k hm⟩
theorem pk_andIn (x : Int32) {m : Int32} (k : Nat) (hm : m.toBitVec.toNat = 2 ^ k - 1) (hk : k ≤ 30) : vp_in (x &&& m) (2 ^ k) := by
  obtain ⟨j, hj, e⟩ := pk_andE x k hm
  rw [e]
  exact vp_in_nI hj (Nat.lt_of_le_of_lt (Nat.pow_le_pow_right (by decide) hk) (by decide))
theorem pk_shl (a s : Int32) (k : Nat) (hs : (s.toBitVec.smod 32).toNat = k) : (a <<< s).toBitVec.toNat = a.toBitVec.toNat * 2 ^ k % 2 ^ 32 := by
  show (a.toBitVec <<< (s.toBitVec.smod 32).toNat).toNat = _
  rw [hs, BitVec.toNat_shiftLeft, Nat.shiftLeft_eq]
theorem pk_shlN {n : Nat} (s : Int32) (k : Nat) (hs : (s.toBitVec.smod 32).toNat = k) (h : n * 2 ^ k < 2 ^ 32) : nI n <<< s = nI (n * 2 ^ k) := by
  apply Int32.toBitVec_inj.mp
  apply BitVec.eq_of_toNat_eq
  have hn : n < 2 ^ 32 := Nat.lt_of_le_of_lt (Nat.le_mul_of_pos_right n (Nat.two_pow_pos k)) h
  rw [pk_shl _ _ k hs, pk_tn hn, pk_tn h, Nat.mod_eq_of_lt h]
theorem pk_shr (a s : Int32) (k : Nat) (hs : (s.toBitVec.smod 32).toNat = k) : (a >>> s).toInt = a.toInt >>> k := by
  show (a.toBitVec.sshiftRight (s.toBitVec.smod 32).toNat).toInt = _
  rw [hs, BitVec.toInt_sshiftRight]
  rfl
theorem pk_shrN {n : Nat} (h : n < 2 ^ 31) (s : Int32) (k : Nat) (hs : (s.toBitVec.smod 32).toNat = k) : nI n >>> s = nI (n / 2 ^ k) := by
  apply Int32.toInt_inj.mp
  have h2 : n / 2 ^ k ≤ n := Nat.div_le_self _ _
  rw [pk_shr _ _ k hs, nI_toInt h, nI_toInt (by omega), Int.shiftRight_eq_div_pow]
  rfl
theorem pk_ushr (x s : Int32) (k : Nat) (hs : ((s.toUInt32 &&& Int32.toUInt32 31).toBitVec % 32).toNat = k) : (x.toUInt32 >>> (s.toUInt32 &&& Int32.toUInt32 31)).toInt32.toBitVec.toNat = x.toBitVec.toNat / 2 ^ k := by
  have e : (x.toUInt32 >>> (s.toUInt32 &&& Int32.toUInt32 31)).toInt32.toBitVec = x.toBitVec >>> k := by
    rw [← hs]
    exact UInt32.toBitVec_shiftRight _ _
  rw [e, BitVec.toNat_ushiftRight, Nat.shiftRight_eq_div_pow]
theorem pk_ushrN {n : Nat} (hn : n < 2 ^ 32) (s : Int32) (k : Nat) (hs : ((s.toUInt32 &&& Int32.toUInt32 31).toBitVec % 32).toNat = k) : ((nI n).toUInt32 >>> (s.toUInt32 &&& Int32.toUInt32 31)).toInt32 = nI (n / 2 ^ k) := by
  apply Int32.toBitVec_inj.mp
  apply BitVec.eq_of_toNat_eq
  rw [pk_ushr _ s k hs, pk_tn hn, pk_tn (Nat.lt_of_le_of_lt (Nat.div_le_self _ _) hn)]
theorem pk_nb (z : Int32) : narrow .byte (.int z.toInt8.toInt32) = .int z.toInt8.toInt32 := congrArg Value.int (by simp)
theorem pk_ns (z : Int32) : narrow .short (.int z.toInt16.toInt32) = .int z.toInt16.toInt32 := congrArg Value.int (by simp)
theorem pk_fb (r : Int32) : fits .byte (.int r.toInt8.toInt32) = true := by
  have ⟨a, b⟩ := lg_i2b_range r
  have h1 : (-128 : Int32).toInt = -128 := by decide
  have h2 : (127 : Int32).toInt = 127 := by decide
  simp only [fits, Bool.and_eq_true, decide_eq_true_eq, Int32.le_iff_toInt_le, h1, h2]
  omega
theorem pk_fs (r : Int32) : fits .short (.int r.toInt16.toInt32) = true := by
  have ⟨a, b⟩ := lg_i2s_range r
  have h1 : (-32768 : Int32).toInt = -32768 := by decide
  have h2 : (32767 : Int32).toInt = 32767 := by decide
  simp only [fits, Bool.and_eq_true, decide_eq_true_eq, Int32.le_iff_toInt_le, h1, h2]
  omega
theorem pk_charN {q : Nat} (hq : q < 65536) : narrow .char (.int (nI q)) = .int (nI q) ∧ fits .char (.int (nI q)) = true := by
  constructor
  · have e : (nI q).toUInt32.toUInt16.toUInt32.toInt32 = nI q := by
      apply Int32.toBitVec_inj.mp
      apply BitVec.eq_of_toNat_eq
      show (nI q).toUInt32.toUInt16.toUInt32.toNat = q % 2 ^ 32
      rw [UInt16.toNat_toUInt32, UInt32.toNat_toUInt16, show (nI q).toUInt32.toNat = q % 2 ^ 32 from rfl]
      omega
    exact congrArg Value.int e
  · have a : (0 : Int32) ≤ nI q := nI_pos' (by omega)
    have b : nI q ≤ 65535 := nI_le (b := 65535) (by omega) (by decide)
    show (decide ((0 : Int32) ≤ nI q) && decide (nI q ≤ 65535)) = true
    rw [decide_eq_true a, decide_eq_true b]
    rfl
theorem pk_char (x : Int32) : (x.toUInt32 % 65536).toInt32 = nI (x.toBitVec.toNat % 65536) := by
  apply Int32.toBitVec_inj.mp
  apply BitVec.eq_of_toNat_eq
  rw [pk_tn (by omega)]
  show (x.toUInt32 % 65536).toNat = _
  rw [UInt32.toNat_mod]
  rfl
theorem pk_nc (x : Int32) : narrow .char (.int (x.toUInt32 % 65536).toInt32) = .int (x.toUInt32 % 65536).toInt32 := by
  rw [pk_char]
  exact (pk_charN (Nat.mod_lt _ (by decide))).1
theorem pk_fc (x : Int32) : fits .char (.int (x.toUInt32 % 65536).toInt32) = true := by
  rw [pk_char]
  exact (pk_charN (Nat.mod_lt _ (by decide))).2
theorem pk_vb (z : Int32) : vp_nar .byte z.toInt8.toInt32 = z.toInt8.toInt32 := by rw [vp_nar_byte]; simp
theorem pk_vs (z : Int32) : vp_nar .short z.toInt16.toInt32 = z.toInt16.toInt32 := by rw [vp_nar_short]; simp
theorem pk_vc (z : Int32) : vp_nar .char (z.toUInt32 % 65536).toInt32 = (z.toUInt32 % 65536).toInt32 := Value.int.inj (pk_nc z)
theorem pk_lT {n : Nat} (h : n < 2 ^ 63) : (lN n).toInt = (n : Int) := lg_ofNat_toInt h
theorem pk_lLT {a b : Nat} (ha : a < 2 ^ 63) (hb : b < 2 ^ 63) : lN a < lN b ↔ a < b := by
  rw [Int64.lt_iff_toInt_lt, pk_lT ha, pk_lT hb]; omega
theorem pk_lLE {a b : Nat} (ha : a < 2 ^ 63) (hb : b < 2 ^ 63) : lN a ≤ lN b ↔ a ≤ b := by
  rw [Int64.le_iff_toInt_le, pk_lT ha, pk_lT hb]; omega
theorem pk_lEQ {a b : Nat} (ha : a < 2 ^ 63) (hb : b < 2 ^ 63) : lN a = lN b ↔ a = b := by
  rw [← Int64.toInt_inj, pk_lT ha, pk_lT hb]; omega
theorem pk_lOf {x : Int64} (h : ¬ x < 0) : ∃ k : Nat, k < 2 ^ 63 ∧ x = lN k := by
  rw [Int64.lt_iff_toInt_lt] at h
  have h0 : (0 : Int64).toInt = 0 := by decide
  have hx := Int64.toInt_lt x
  refine ⟨x.toInt.toNat, by omega, Int64.toInt_inj.mp ?_⟩
  rw [pk_lT (by omega)]
  omega
theorem pk_lDiv {a b : Nat} (ha : a < 2 ^ 63) (h0 : 0 < b) (hb : b < 2 ^ 63) : lN a / lN b = lN (a / b) := by
  apply Int64.toInt_inj.mp
  rw [lg_ldiv_nonneg (by rw [pk_lT ha]; omega) (by rw [pk_lT hb]; omega), pk_lT ha, pk_lT hb, pk_lT (Nat.lt_of_le_of_lt (Nat.div_le_self a b) ha)]
  rfl
theorem pk_lRem {a b : Nat} (ha : a < 2 ^ 63) (h0 : 0 < b) (hb : b < 2 ^ 63) : lN a - lN a / lN b * lN b = lN (a % b) := by
  rw [pk_lDiv ha h0 hb, lN_mul, lN_sub (Nat.div_mul_le_self a b)]
  exact congrArg lN (by have := Nat.div_add_mod' a b; omega)
theorem pk_loop {σ : Type} (W : Nat → Nat → σ → Prop) (I : Nat → σ → Prop) (e i0 : Nat) (s : σ) (hi : i0 ≤ e) (h0 : I i0 s) (hx : ∀ n s, I e s → W (n + 1) e s)
    (hs : ∀ n i s, i < e → I i s → (∀ s', I (i + 1) s' → W n (i + 1) s') → W (n + 1) i s) : ∃ n, W n i0 s :=
  ⟨e + 1, loop_i W I e hx hs (e + 1) i0 s hi (by omega) h0⟩
theorem pk_loopD {σ : Type} (W : Nat → Nat → σ → Prop) (I : Nat → σ → Prop) (hx : ∀ n s, I 0 s → W (n + 1) 0 s)
    (hs : ∀ n i s, I (i + 1) s → (∀ s', I i s' → W n i s') → W (n + 1) (i + 1) s) : ∀ (e : Nat) (s : σ), I e s → W (e + 1) e s := by
  intro e
  induction e with
  | zero => exact fun s h => hx 0 s h
  | succ e ih => exact fun s h => hs (e + 1) e s h (fun s' h' => ih s' h')
theorem lp1 {A1 : Type} (W : Nat → A1 → Prop) (I : A1 → Prop) (μ : A1 → Nat) (hs : ∀ (n : Nat) (a1 : A1), I a1 → (∀ (b1 : A1), I b1 → μ b1 < μ a1 → W n b1) → W (n + 1) a1) (a1 : A1) (h : I a1) : ∃ n, W n a1 :=
  loop_m (σ := A1) (fun n s => W n s) (fun s => I s) (fun s => μ s) (fun n s hI hk => hs n s hI (fun b1 h9 hm => hk b1 h9 hm)) a1 h
theorem lp2 {A1 A2 : Type} (W : Nat → A1 → A2 → Prop) (I : A1 → A2 → Prop) (μ : A1 → A2 → Nat) (hs : ∀ (n : Nat) (a1 : A1) (a2 : A2), I a1 a2 → (∀ (b1 : A1) (b2 : A2), I b1 b2 → μ b1 b2 < μ a1 a2 → W n b1 b2) → W (n + 1) a1 a2) (a1 : A1) (a2 : A2) (h : I a1 a2) : ∃ n, W n a1 a2 :=
  loop_m (σ := A1 × A2) (fun n s => W n s.1 s.2) (fun s => I s.1 s.2) (fun s => μ s.1 s.2) (fun n s hI hk => hs n s.1 s.2 hI (fun b1 b2 h9 hm => hk (b1, b2) h9 hm)) (a1, a2) h
theorem lp3 {A1 A2 A3 : Type} (W : Nat → A1 → A2 → A3 → Prop) (I : A1 → A2 → A3 → Prop) (μ : A1 → A2 → A3 → Nat) (hs : ∀ (n : Nat) (a1 : A1) (a2 : A2) (a3 : A3), I a1 a2 a3 → (∀ (b1 : A1) (b2 : A2) (b3 : A3), I b1 b2 b3 → μ b1 b2 b3 < μ a1 a2 a3 → W n b1 b2 b3) → W (n + 1) a1 a2 a3) (a1 : A1) (a2 : A2) (a3 : A3) (h : I a1 a2 a3) : ∃ n, W n a1 a2 a3 :=
  loop_m (σ := A1 × A2 × A3) (fun n s => W n s.1 s.2.1 s.2.2) (fun s => I s.1 s.2.1 s.2.2) (fun s => μ s.1 s.2.1 s.2.2) (fun n s hI hk => hs n s.1 s.2.1 s.2.2 hI (fun b1 b2 b3 h9 hm => hk (b1, b2, b3) h9 hm)) (a1, a2, a3) h
theorem lp4 {A1 A2 A3 A4 : Type} (W : Nat → A1 → A2 → A3 → A4 → Prop) (I : A1 → A2 → A3 → A4 → Prop) (μ : A1 → A2 → A3 → A4 → Nat) (hs : ∀ (n : Nat) (a1 : A1) (a2 : A2) (a3 : A3) (a4 : A4), I a1 a2 a3 a4 → (∀ (b1 : A1) (b2 : A2) (b3 : A3) (b4 : A4), I b1 b2 b3 b4 → μ b1 b2 b3 b4 < μ a1 a2 a3 a4 → W n b1 b2 b3 b4) → W (n + 1) a1 a2 a3 a4) (a1 : A1) (a2 : A2) (a3 : A3) (a4 : A4) (h : I a1 a2 a3 a4) : ∃ n, W n a1 a2 a3 a4 :=
  loop_m (σ := A1 × A2 × A3 × A4) (fun n s => W n s.1 s.2.1 s.2.2.1 s.2.2.2) (fun s => I s.1 s.2.1 s.2.2.1 s.2.2.2) (fun s => μ s.1 s.2.1 s.2.2.1 s.2.2.2) (fun n s hI hk => hs n s.1 s.2.1 s.2.2.1 s.2.2.2 hI (fun b1 b2 b3 b4 h9 hm => hk (b1, b2, b3, b4) h9 hm)) (a1, a2, a3, a4) h
theorem lp5 {A1 A2 A3 A4 A5 : Type} (W : Nat → A1 → A2 → A3 → A4 → A5 → Prop) (I : A1 → A2 → A3 → A4 → A5 → Prop) (μ : A1 → A2 → A3 → A4 → A5 → Nat) (hs : ∀ (n : Nat) (a1 : A1) (a2 : A2) (a3 : A3) (a4 : A4) (a5 : A5), I a1 a2 a3 a4 a5 → (∀ (b1 : A1) (b2 : A2) (b3 : A3) (b4 : A4) (b5 : A5), I b1 b2 b3 b4 b5 → μ b1 b2 b3 b4 b5 < μ a1 a2 a3 a4 a5 → W n b1 b2 b3 b4 b5) → W (n + 1) a1 a2 a3 a4 a5) (a1 : A1) (a2 : A2) (a3 : A3) (a4 : A4) (a5 : A5) (h : I a1 a2 a3 a4 a5) : ∃ n, W n a1 a2 a3 a4 a5 :=
  loop_m (σ := A1 × A2 × A3 × A4 × A5) (fun n s => W n s.1 s.2.1 s.2.2.1 s.2.2.2.1 s.2.2.2.2) (fun s => I s.1 s.2.1 s.2.2.1 s.2.2.2.1 s.2.2.2.2) (fun s => μ s.1 s.2.1 s.2.2.1 s.2.2.2.1 s.2.2.2.2) (fun n s hI hk => hs n s.1 s.2.1 s.2.2.1 s.2.2.2.1 s.2.2.2.2 hI (fun b1 b2 b3 b4 b5 h9 hm => hk (b1, b2, b3, b4, b5) h9 hm)) (a1, a2, a3, a4, a5) h
theorem lp6 {A1 A2 A3 A4 A5 A6 : Type} (W : Nat → A1 → A2 → A3 → A4 → A5 → A6 → Prop) (I : A1 → A2 → A3 → A4 → A5 → A6 → Prop) (μ : A1 → A2 → A3 → A4 → A5 → A6 → Nat) (hs : ∀ (n : Nat) (a1 : A1) (a2 : A2) (a3 : A3) (a4 : A4) (a5 : A5) (a6 : A6), I a1 a2 a3 a4 a5 a6 → (∀ (b1 : A1) (b2 : A2) (b3 : A3) (b4 : A4) (b5 : A5) (b6 : A6), I b1 b2 b3 b4 b5 b6 → μ b1 b2 b3 b4 b5 b6 < μ a1 a2 a3 a4 a5 a6 → W n b1 b2 b3 b4 b5 b6) → W (n + 1) a1 a2 a3 a4 a5 a6) (a1 : A1) (a2 : A2) (a3 : A3) (a4 : A4) (a5 : A5) (a6 : A6) (h : I a1 a2 a3 a4 a5 a6) : ∃ n, W n a1 a2 a3 a4 a5 a6 :=
  loop_m (σ := A1 × A2 × A3 × A4 × A5 × A6) (fun n s => W n s.1 s.2.1 s.2.2.1 s.2.2.2.1 s.2.2.2.2.1 s.2.2.2.2.2) (fun s => I s.1 s.2.1 s.2.2.1 s.2.2.2.1 s.2.2.2.2.1 s.2.2.2.2.2) (fun s => μ s.1 s.2.1 s.2.2.1 s.2.2.2.1 s.2.2.2.2.1 s.2.2.2.2.2) (fun n s hI hk => hs n s.1 s.2.1 s.2.2.1 s.2.2.2.1 s.2.2.2.2.1 s.2.2.2.2.2 hI (fun b1 b2 b3 b4 b5 b6 h9 hm => hk (b1, b2, b3, b4, b5, b6) h9 hm)) (a1, a2, a3, a4, a5, a6) h
theorem lp7 {A1 A2 A3 A4 A5 A6 A7 : Type} (W : Nat → A1 → A2 → A3 → A4 → A5 → A6 → A7 → Prop) (I : A1 → A2 → A3 → A4 → A5 → A6 → A7 → Prop) (μ : A1 → A2 → A3 → A4 → A5 → A6 → A7 → Nat) (hs : ∀ (n : Nat) (a1 : A1) (a2 : A2) (a3 : A3) (a4 : A4) (a5 : A5) (a6 : A6) (a7 : A7), I a1 a2 a3 a4 a5 a6 a7 → (∀ (b1 : A1) (b2 : A2) (b3 : A3) (b4 : A4) (b5 : A5) (b6 : A6) (b7 : A7), I b1 b2 b3 b4 b5 b6 b7 → μ b1 b2 b3 b4 b5 b6 b7 < μ a1 a2 a3 a4 a5 a6 a7 → W n b1 b2 b3 b4 b5 b6 b7) → W (n + 1) a1 a2 a3 a4 a5 a6 a7) (a1 : A1) (a2 : A2) (a3 : A3) (a4 : A4) (a5 : A5) (a6 : A6) (a7 : A7) (h : I a1 a2 a3 a4 a5 a6 a7) : ∃ n, W n a1 a2 a3 a4 a5 a6 a7 :=
  loop_m (σ := A1 × A2 × A3 × A4 × A5 × A6 × A7) (fun n s => W n s.1 s.2.1 s.2.2.1 s.2.2.2.1 s.2.2.2.2.1 s.2.2.2.2.2.1 s.2.2.2.2.2.2) (fun s => I s.1 s.2.1 s.2.2.1 s.2.2.2.1 s.2.2.2.2.1 s.2.2.2.2.2.1 s.2.2.2.2.2.2) (fun s => μ s.1 s.2.1 s.2.2.1 s.2.2.2.1 s.2.2.2.2.1 s.2.2.2.2.2.1 s.2.2.2.2.2.2) (fun n s hI hk => hs n s.1 s.2.1 s.2.2.1 s.2.2.2.1 s.2.2.2.2.1 s.2.2.2.2.2.1 s.2.2.2.2.2.2 hI (fun b1 b2 b3 b4 b5 b6 b7 h9 hm => hk (b1, b2, b3, b4, b5, b6, b7) h9 hm)) (a1, a2, a3, a4, a5, a6, a7) h
theorem lp8 {A1 A2 A3 A4 A5 A6 A7 A8 : Type} (W : Nat → A1 → A2 → A3 → A4 → A5 → A6 → A7 → A8 → Prop) (I : A1 → A2 → A3 → A4 → A5 → A6 → A7 → A8 → Prop) (μ : A1 → A2 → A3 → A4 → A5 → A6 → A7 → A8 → Nat) (hs : ∀ (n : Nat) (a1 : A1) (a2 : A2) (a3 : A3) (a4 : A4) (a5 : A5) (a6 : A6) (a7 : A7) (a8 : A8), I a1 a2 a3 a4 a5 a6 a7 a8 → (∀ (b1 : A1) (b2 : A2) (b3 : A3) (b4 : A4) (b5 : A5) (b6 : A6) (b7 : A7) (b8 : A8), I b1 b2 b3 b4 b5 b6 b7 b8 → μ b1 b2 b3 b4 b5 b6 b7 b8 < μ a1 a2 a3 a4 a5 a6 a7 a8 → W n b1 b2 b3 b4 b5 b6 b7 b8) → W (n + 1) a1 a2 a3 a4 a5 a6 a7 a8) (a1 : A1) (a2 : A2) (a3 : A3) (a4 : A4) (a5 : A5) (a6 : A6) (a7 : A7) (a8 : A8) (h : I a1 a2 a3 a4 a5 a6 a7 a8) : ∃ n, W n a1 a2 a3 a4 a5 a6 a7 a8 :=
  loop_m (σ := A1 × A2 × A3 × A4 × A5 × A6 × A7 × A8) (fun n s => W n s.1 s.2.1 s.2.2.1 s.2.2.2.1 s.2.2.2.2.1 s.2.2.2.2.2.1 s.2.2.2.2.2.2.1 s.2.2.2.2.2.2.2) (fun s => I s.1 s.2.1 s.2.2.1 s.2.2.2.1 s.2.2.2.2.1 s.2.2.2.2.2.1 s.2.2.2.2.2.2.1 s.2.2.2.2.2.2.2) (fun s => μ s.1 s.2.1 s.2.2.1 s.2.2.2.1 s.2.2.2.2.1 s.2.2.2.2.2.1 s.2.2.2.2.2.2.1 s.2.2.2.2.2.2.2) (fun n s hI hk => hs n s.1 s.2.1 s.2.2.1 s.2.2.2.1 s.2.2.2.2.1 s.2.2.2.2.2.1 s.2.2.2.2.2.2.1 s.2.2.2.2.2.2.2 hI (fun b1 b2 b3 b4 b5 b6 b7 b8 h9 hm => hk (b1, b2, b3, b4, b5, b6, b7, b8) h9 hm)) (a1, a2, a3, a4, a5, a6, a7, a8) h
theorem lp9 {A1 A2 A3 A4 A5 A6 A7 A8 A9 : Type} (W : Nat → A1 → A2 → A3 → A4 → A5 → A6 → A7 → A8 → A9 → Prop) (I : A1 → A2 → A3 → A4 → A5 → A6 → A7 → A8 → A9 → Prop) (μ : A1 → A2 → A3 → A4 → A5 → A6 → A7 → A8 → A9 → Nat) (hs : ∀ (n : Nat) (a1 : A1) (a2 : A2) (a3 : A3) (a4 : A4) (a5 : A5) (a6 : A6) (a7 : A7) (a8 : A8) (a9 : A9), I a1 a2 a3 a4 a5 a6 a7 a8 a9 → (∀ (b1 : A1) (b2 : A2) (b3 : A3) (b4 : A4) (b5 : A5) (b6 : A6) (b7 : A7) (b8 : A8) (b9 : A9), I b1 b2 b3 b4 b5 b6 b7 b8 b9 → μ b1 b2 b3 b4 b5 b6 b7 b8 b9 < μ a1 a2 a3 a4 a5 a6 a7 a8 a9 → W n b1 b2 b3 b4 b5 b6 b7 b8 b9) → W (n + 1) a1 a2 a3 a4 a5 a6 a7 a8 a9) (a1 : A1) (a2 : A2) (a3 : A3) (a4 : A4) (a5 : A5) (a6 : A6) (a7 : A7) (a8 : A8) (a9 : A9) (h : I a1 a2 a3 a4 a5 a6 a7 a8 a9) : ∃ n, W n a1 a2 a3 a4 a5 a6 a7 a8 a9 :=
  loop_m (σ := A1 × A2 × A3 × A4 × A5 × A6 × A7 × A8 × A9) (fun n s => W n s.1 s.2.1 s.2.2.1 s.2.2.2.1 s.2.2.2.2.1 s.2.2.2.2.2.1 s.2.2.2.2.2.2.1 s.2.2.2.2.2.2.2.1 s.2.2.2.2.2.2.2.2) (fun s => I s.1 s.2.1 s.2.2.1 s.2.2.2.1 s.2.2.2.2.1 s.2.2.2.2.2.1 s.2.2.2.2.2.2.1 s.2.2.2.2.2.2.2.1 s.2.2.2.2.2.2.2.2) (fun s => μ s.1 s.2.1 s.2.2.1 s.2.2.2.1 s.2.2.2.2.1 s.2.2.2.2.2.1 s.2.2.2.2.2.2.1 s.2.2.2.2.2.2.2.1 s.2.2.2.2.2.2.2.2) (fun n s hI hk => hs n s.1 s.2.1 s.2.2.1 s.2.2.2.1 s.2.2.2.2.1 s.2.2.2.2.2.1 s.2.2.2.2.2.2.1 s.2.2.2.2.2.2.2.1 s.2.2.2.2.2.2.2.2 hI (fun b1 b2 b3 b4 b5 b6 b7 b8 b9 h9 hm => hk (b1, b2, b3, b4, b5, b6, b7, b8, b9) h9 hm)) (a1, a2, a3, a4, a5, a6, a7, a8, a9) h
theorem lp10 {A1 A2 A3 A4 A5 A6 A7 A8 A9 A10 : Type} (W : Nat → A1 → A2 → A3 → A4 → A5 → A6 → A7 → A8 → A9 → A10 → Prop) (I : A1 → A2 → A3 → A4 → A5 → A6 → A7 → A8 → A9 → A10 → Prop) (μ : A1 → A2 → A3 → A4 → A5 → A6 → A7 → A8 → A9 → A10 → Nat) (hs : ∀ (n : Nat) (a1 : A1) (a2 : A2) (a3 : A3) (a4 : A4) (a5 : A5) (a6 : A6) (a7 : A7) (a8 : A8) (a9 : A9) (a10 : A10), I a1 a2 a3 a4 a5 a6 a7 a8 a9 a10 → (∀ (b1 : A1) (b2 : A2) (b3 : A3) (b4 : A4) (b5 : A5) (b6 : A6) (b7 : A7) (b8 : A8) (b9 : A9) (b10 : A10), I b1 b2 b3 b4 b5 b6 b7 b8 b9 b10 → μ b1 b2 b3 b4 b5 b6 b7 b8 b9 b10 < μ a1 a2 a3 a4 a5 a6 a7 a8 a9 a10 → W n b1 b2 b3 b4 b5 b6 b7 b8 b9 b10) → W (n + 1) a1 a2 a3 a4 a5 a6 a7 a8 a9 a10) (a1 : A1) (a2 : A2) (a3 : A3) (a4 : A4) (a5 : A5) (a6 : A6) (a7 : A7) (a8 : A8) (a9 : A9) (a10 : A10) (h : I a1 a2 a3 a4 a5 a6 a7 a8 a9 a10) : ∃ n, W n a1 a2 a3 a4 a5 a6 a7 a8 a9 a10 :=
  loop_m (σ := A1 × A2 × A3 × A4 × A5 × A6 × A7 × A8 × A9 × A10) (fun n s => W n s.1 s.2.1 s.2.2.1 s.2.2.2.1 s.2.2.2.2.1 s.2.2.2.2.2.1 s.2.2.2.2.2.2.1 s.2.2.2.2.2.2.2.1 s.2.2.2.2.2.2.2.2.1 s.2.2.2.2.2.2.2.2.2) (fun s => I s.1 s.2.1 s.2.2.1 s.2.2.2.1 s.2.2.2.2.1 s.2.2.2.2.2.1 s.2.2.2.2.2.2.1 s.2.2.2.2.2.2.2.1 s.2.2.2.2.2.2.2.2.1 s.2.2.2.2.2.2.2.2.2) (fun s => μ s.1 s.2.1 s.2.2.1 s.2.2.2.1 s.2.2.2.2.1 s.2.2.2.2.2.1 s.2.2.2.2.2.2.1 s.2.2.2.2.2.2.2.1 s.2.2.2.2.2.2.2.2.1 s.2.2.2.2.2.2.2.2.2) (fun n s hI hk => hs n s.1 s.2.1 s.2.2.1 s.2.2.2.1 s.2.2.2.2.1 s.2.2.2.2.2.1 s.2.2.2.2.2.2.1 s.2.2.2.2.2.2.2.1 s.2.2.2.2.2.2.2.2.1 s.2.2.2.2.2.2.2.2.2 hI (fun b1 b2 b3 b4 b5 b6 b7 b8 b9 b10 h9 hm => hk (b1, b2, b3, b4, b5, b6, b7, b8, b9, b10) h9 hm)) (a1, a2, a3, a4, a5, a6, a7, a8, a9, a10) h
theorem lp11 {A1 A2 A3 A4 A5 A6 A7 A8 A9 A10 A11 : Type} (W : Nat → A1 → A2 → A3 → A4 → A5 → A6 → A7 → A8 → A9 → A10 → A11 → Prop) (I : A1 → A2 → A3 → A4 → A5 → A6 → A7 → A8 → A9 → A10 → A11 → Prop) (μ : A1 → A2 → A3 → A4 → A5 → A6 → A7 → A8 → A9 → A10 → A11 → Nat) (hs : ∀ (n : Nat) (a1 : A1) (a2 : A2) (a3 : A3) (a4 : A4) (a5 : A5) (a6 : A6) (a7 : A7) (a8 : A8) (a9 : A9) (a10 : A10) (a11 : A11), I a1 a2 a3 a4 a5 a6 a7 a8 a9 a10 a11 → (∀ (b1 : A1) (b2 : A2) (b3 : A3) (b4 : A4) (b5 : A5) (b6 : A6) (b7 : A7) (b8 : A8) (b9 : A9) (b10 : A10) (b11 : A11), I b1 b2 b3 b4 b5 b6 b7 b8 b9 b10 b11 → μ b1 b2 b3 b4 b5 b6 b7 b8 b9 b10 b11 < μ a1 a2 a3 a4 a5 a6 a7 a8 a9 a10 a11 → W n b1 b2 b3 b4 b5 b6 b7 b8 b9 b10 b11) → W (n + 1) a1 a2 a3 a4 a5 a6 a7 a8 a9 a10 a11) (a1 : A1) (a2 : A2) (a3 : A3) (a4 : A4) (a5 : A5) (a6 : A6) (a7 : A7) (a8 : A8) (a9 : A9) (a10 : A10) (a11 : A11) (h : I a1 a2 a3 a4 a5 a6 a7 a8 a9 a10 a11) : ∃ n, W n a1 a2 a3 a4 a5 a6 a7 a8 a9 a10 a11 :=
  loop_m (σ := A1 × A2 × A3 × A4 × A5 × A6 × A7 × A8 × A9 × A10 × A11) (fun n s => W n s.1 s.2.1 s.2.2.1 s.2.2.2.1 s.2.2.2.2.1 s.2.2.2.2.2.1 s.2.2.2.2.2.2.1 s.2.2.2.2.2.2.2.1 s.2.2.2.2.2.2.2.2.1 s.2.2.2.2.2.2.2.2.2.1 s.2.2.2.2.2.2.2.2.2.2) (fun s => I s.1 s.2.1 s.2.2.1 s.2.2.2.1 s.2.2.2.2.1 s.2.2.2.2.2.1 s.2.2.2.2.2.2.1 s.2.2.2.2.2.2.2.1 s.2.2.2.2.2.2.2.2.1 s.2.2.2.2.2.2.2.2.2.1 s.2.2.2.2.2.2.2.2.2.2) (fun s => μ s.1 s.2.1 s.2.2.1 s.2.2.2.1 s.2.2.2.2.1 s.2.2.2.2.2.1 s.2.2.2.2.2.2.1 s.2.2.2.2.2.2.2.1 s.2.2.2.2.2.2.2.2.1 s.2.2.2.2.2.2.2.2.2.1 s.2.2.2.2.2.2.2.2.2.2) (fun n s hI hk => hs n s.1 s.2.1 s.2.2.1 s.2.2.2.1 s.2.2.2.2.1 s.2.2.2.2.2.1 s.2.2.2.2.2.2.1 s.2.2.2.2.2.2.2.1 s.2.2.2.2.2.2.2.2.1 s.2.2.2.2.2.2.2.2.2.1 s.2.2.2.2.2.2.2.2.2.2 hI (fun b1 b2 b3 b4 b5 b6 b7 b8 b9 b10 b11 h9 hm => hk (b1, b2, b3, b4, b5, b6, b7, b8, b9, b10, b11) h9 hm)) (a1, a2, a3, a4, a5, a6, a7, a8, a9, a10, a11) h
theorem lp12 {A1 A2 A3 A4 A5 A6 A7 A8 A9 A10 A11 A12 : Type} (W : Nat → A1 → A2 → A3 → A4 → A5 → A6 → A7 → A8 → A9 → A10 → A11 → A12 → Prop) (I : A1 → A2 → A3 → A4 → A5 → A6 → A7 → A8 → A9 → A10 → A11 → A12 → Prop) (μ : A1 → A2 → A3 → A4 → A5 → A6 → A7 → A8 → A9 → A10 → A11 → A12 → Nat) (hs : ∀ (n : Nat) (a1 : A1) (a2 : A2) (a3 : A3) (a4 : A4) (a5 : A5) (a6 : A6) (a7 : A7) (a8 : A8) (a9 : A9) (a10 : A10) (a11 : A11) (a12 : A12), I a1 a2 a3 a4 a5 a6 a7 a8 a9 a10 a11 a12 → (∀ (b1 : A1) (b2 : A2) (b3 : A3) (b4 : A4) (b5 : A5) (b6 : A6) (b7 : A7) (b8 : A8) (b9 : A9) (b10 : A10) (b11 : A11) (b12 : A12), I b1 b2 b3 b4 b5 b6 b7 b8 b9 b10 b11 b12 → μ b1 b2 b3 b4 b5 b6 b7 b8 b9 b10 b11 b12 < μ a1 a2 a3 a4 a5 a6 a7 a8 a9 a10 a11 a12 → W n b1 b2 b3 b4 b5 b6 b7 b8 b9 b10 b11 b12) → W (n + 1) a1 a2 a3 a4 a5 a6 a7 a8 a9 a10 a11 a12) (a1 : A1) (a2 : A2) (a3 : A3) (a4 : A4) (a5 : A5) (a6 : A6) (a7 : A7) (a8 : A8) (a9 : A9) (a10 : A10) (a11 : A11) (a12 : A12) (h : I a1 a2 a3 a4 a5 a6 a7 a8 a9 a10 a11 a12) : ∃ n, W n a1 a2 a3 a4 a5 a6 a7 a8 a9 a10 a11 a12 :=
  loop_m (σ := A1 × A2 × A3 × A4 × A5 × A6 × A7 × A8 × A9 × A10 × A11 × A12) (fun n s => W n s.1 s.2.1 s.2.2.1 s.2.2.2.1 s.2.2.2.2.1 s.2.2.2.2.2.1 s.2.2.2.2.2.2.1 s.2.2.2.2.2.2.2.1 s.2.2.2.2.2.2.2.2.1 s.2.2.2.2.2.2.2.2.2.1 s.2.2.2.2.2.2.2.2.2.2.1 s.2.2.2.2.2.2.2.2.2.2.2) (fun s => I s.1 s.2.1 s.2.2.1 s.2.2.2.1 s.2.2.2.2.1 s.2.2.2.2.2.1 s.2.2.2.2.2.2.1 s.2.2.2.2.2.2.2.1 s.2.2.2.2.2.2.2.2.1 s.2.2.2.2.2.2.2.2.2.1 s.2.2.2.2.2.2.2.2.2.2.1 s.2.2.2.2.2.2.2.2.2.2.2) (fun s => μ s.1 s.2.1 s.2.2.1 s.2.2.2.1 s.2.2.2.2.1 s.2.2.2.2.2.1 s.2.2.2.2.2.2.1 s.2.2.2.2.2.2.2.1 s.2.2.2.2.2.2.2.2.1 s.2.2.2.2.2.2.2.2.2.1 s.2.2.2.2.2.2.2.2.2.2.1 s.2.2.2.2.2.2.2.2.2.2.2) (fun n s hI hk => hs n s.1 s.2.1 s.2.2.1 s.2.2.2.1 s.2.2.2.2.1 s.2.2.2.2.2.1 s.2.2.2.2.2.2.1 s.2.2.2.2.2.2.2.1 s.2.2.2.2.2.2.2.2.1 s.2.2.2.2.2.2.2.2.2.1 s.2.2.2.2.2.2.2.2.2.2.1 s.2.2.2.2.2.2.2.2.2.2.2 hI (fun b1 b2 b3 b4 b5 b6 b7 b8 b9 b10 b11 b12 h9 hm => hk (b1, b2, b3, b4, b5, b6, b7, b8, b9, b10, b11, b12) h9 hm)) (a1, a2, a3, a4, a5, a6, a7, a8, a9, a10, a11, a12) h
theorem lp13 {A1 A2 A3 A4 A5 A6 A7 A8 A9 A10 A11 A12 A13 : Type} (W : Nat → A1 → A2 → A3 → A4 → A5 → A6 → A7 → A8 → A9 → A10 → A11 → A12 → A13 → Prop) (I : A1 → A2 → A3 → A4 → A5 → A6 → A7 → A8 → A9 → A10 → A11 → A12 → A13 → Prop) (μ : A1 → A2 → A3 → A4 → A5 → A6 → A7 → A8 → A9 → A10 → A11 → A12 → A13 → Nat) (hs : ∀ (n : Nat) (a1 : A1) (a2 : A2) (a3 : A3) (a4 : A4) (a5 : A5) (a6 : A6) (a7 : A7) (a8 : A8) (a9 : A9) (a10 : A10) (a11 : A11) (a12 : A12) (a13 : A13), I a1 a2 a3 a4 a5 a6 a7 a8 a9 a10 a11 a12 a13 → (∀ (b1 : A1) (b2 : A2) (b3 : A3) (b4 : A4) (b5 : A5) (b6 : A6) (b7 : A7) (b8 : A8) (b9 : A9) (b10 : A10) (b11 : A11) (b12 : A12) (b13 : A13), I b1 b2 b3 b4 b5 b6 b7 b8 b9 b10 b11 b12 b13 → μ b1 b2 b3 b4 b5 b6 b7 b8 b9 b10 b11 b12 b13 < μ a1 a2 a3 a4 a5 a6 a7 a8 a9 a10 a11 a12 a13 → W n b1 b2 b3 b4 b5 b6 b7 b8 b9 b10 b11 b12 b13) → W (n + 1) a1 a2 a3 a4 a5 a6 a7 a8 a9 a10 a11 a12 a13) (a1 : A1) (a2 : A2) (a3 : A3) (a4 : A4) (a5 : A5) (a6 : A6) (a7 : A7) (a8 : A8) (a9 : A9) (a10 : A10) (a11 : A11) (a12 : A12) (a13 : A13) (h : I a1 a2 a3 a4 a5 a6 a7 a8 a9 a10 a11 a12 a13) : ∃ n, W n a1 a2 a3 a4 a5 a6 a7 a8 a9 a10 a11 a12 a13 :=
  loop_m (σ := A1 × A2 × A3 × A4 × A5 × A6 × A7 × A8 × A9 × A10 × A11 × A12 × A13) (fun n s => W n s.1 s.2.1 s.2.2.1 s.2.2.2.1 s.2.2.2.2.1 s.2.2.2.2.2.1 s.2.2.2.2.2.2.1 s.2.2.2.2.2.2.2.1 s.2.2.2.2.2.2.2.2.1 s.2.2.2.2.2.2.2.2.2.1 s.2.2.2.2.2.2.2.2.2.2.1 s.2.2.2.2.2.2.2.2.2.2.2.1 s.2.2.2.2.2.2.2.2.2.2.2.2) (fun s => I s.1 s.2.1 s.2.2.1 s.2.2.2.1 s.2.2.2.2.1 s.2.2.2.2.2.1 s.2.2.2.2.2.2.1 s.2.2.2.2.2.2.2.1 s.2.2.2.2.2.2.2.2.1 s.2.2.2.2.2.2.2.2.2.1 s.2.2.2.2.2.2.2.2.2.2.1 s.2.2.2.2.2.2.2.2.2.2.2.1 s.2.2.2.2.2.2.2.2.2.2.2.2) (fun s => μ s.1 s.2.1 s.2.2.1 s.2.2.2.1 s.2.2.2.2.1 s.2.2.2.2.2.1 s.2.2.2.2.2.2.1 s.2.2.2.2.2.2.2.1 s.2.2.2.2.2.2.2.2.1 s.2.2.2.2.2.2.2.2.2.1 s.2.2.2.2.2.2.2.2.2.2.1 s.2.2.2.2.2.2.2.2.2.2.2.1 s.2.2.2.2.2.2.2.2.2.2.2.2) (fun n s hI hk => hs n s.1 s.2.1 s.2.2.1 s.2.2.2.1 s.2.2.2.2.1 s.2.2.2.2.2.1 s.2.2.2.2.2.2.1 s.2.2.2.2.2.2.2.1 s.2.2.2.2.2.2.2.2.1 s.2.2.2.2.2.2.2.2.2.1 s.2.2.2.2.2.2.2.2.2.2.1 s.2.2.2.2.2.2.2.2.2.2.2.1 s.2.2.2.2.2.2.2.2.2.2.2.2 hI (fun b1 b2 b3 b4 b5 b6 b7 b8 b9 b10 b11 b12 b13 h9 hm => hk (b1, b2, b3, b4, b5, b6, b7, b8, b9, b10, b11, b12, b13) h9 hm)) (a1, a2, a3, a4, a5, a6, a7, a8, a9, a10, a11, a12, a13) h
theorem lp14 {A1 A2 A3 A4 A5 A6 A7 A8 A9 A10 A11 A12 A13 A14 : Type} (W : Nat → A1 → A2 → A3 → A4 → A5 → A6 → A7 → A8 → A9 → A10 → A11 → A12 → A13 → A14 → Prop) (I : A1 → A2 → A3 → A4 → A5 → A6 → A7 → A8 → A9 → A10 → A11 → A12 → A13 → A14 → Prop) (μ : A1 → A2 → A3 → A4 → A5 → A6 → A7 → A8 → A9 → A10 → A11 → A12 → A13 → A14 → Nat) (hs : ∀ (n : Nat) (a1 : A1) (a2 : A2) (a3 : A3) (a4 : A4) (a5 : A5) (a6 : A6) (a7 : A7) (a8 : A8) (a9 : A9) (a10 : A10) (a11 : A11) (a12 : A12) (a13 : A13) (a14 : A14), I a1 a2 a3 a4 a5 a6 a7 a8 a9 a10 a11 a12 a13 a14 → (∀ (b1 : A1) (b2 : A2) (b3 : A3) (b4 : A4) (b5 : A5) (b6 : A6) (b7 : A7) (b8 : A8) (b9 : A9) (b10 : A10) (b11 : A11) (b12 : A12) (b13 : A13) (b14 : A14), I b1 b2 b3 b4 b5 b6 b7 b8 b9 b10 b11 b12 b13 b14 → μ b1 b2 b3 b4 b5 b6 b7 b8 b9 b10 b11 b12 b13 b14 < μ a1 a2 a3 a4 a5 a6 a7 a8 a9 a10 a11 a12 a13 a14 → W n b1 b2 b3 b4 b5 b6 b7 b8 b9 b10 b11 b12 b13 b14) → W (n + 1) a1 a2 a3 a4 a5 a6 a7 a8 a9 a10 a11 a12 a13 a14) (a1 : A1) (a2 : A2) (a3 : A3) (a4 : A4) (a5 : A5) (a6 : A6) (a7 : A7) (a8 : A8) (a9 : A9) (a10 : A10) (a11 : A11) (a12 : A12) (a13 : A13) (a14 : A14) (h : I a1 a2 a3 a4 a5 a6 a7 a8 a9 a10 a11 a12 a13 a14) : ∃ n, W n a1 a2 a3 a4 a5 a6 a7 a8 a9 a10 a11 a12 a13 a14 :=
  loop_m (σ := A1 × A2 × A3 × A4 × A5 × A6 × A7 × A8 × A9 × A10 × A11 × A12 × A13 × A14) (fun n s => W n s.1 s.2.1 s.2.2.1 s.2.2.2.1 s.2.2.2.2.1 s.2.2.2.2.2.1 s.2.2.2.2.2.2.1 s.2.2.2.2.2.2.2.1 s.2.2.2.2.2.2.2.2.1 s.2.2.2.2.2.2.2.2.2.1 s.2.2.2.2.2.2.2.2.2.2.1 s.2.2.2.2.2.2.2.2.2.2.2.1 s.2.2.2.2.2.2.2.2.2.2.2.2.1 s.2.2.2.2.2.2.2.2.2.2.2.2.2) (fun s => I s.1 s.2.1 s.2.2.1 s.2.2.2.1 s.2.2.2.2.1 s.2.2.2.2.2.1 s.2.2.2.2.2.2.1 s.2.2.2.2.2.2.2.1 s.2.2.2.2.2.2.2.2.1 s.2.2.2.2.2.2.2.2.2.1 s.2.2.2.2.2.2.2.2.2.2.1 s.2.2.2.2.2.2.2.2.2.2.2.1 s.2.2.2.2.2.2.2.2.2.2.2.2.1 s.2.2.2.2.2.2.2.2.2.2.2.2.2) (fun s => μ s.1 s.2.1 s.2.2.1 s.2.2.2.1 s.2.2.2.2.1 s.2.2.2.2.2.1 s.2.2.2.2.2.2.1 s.2.2.2.2.2.2.2.1 s.2.2.2.2.2.2.2.2.1 s.2.2.2.2.2.2.2.2.2.1 s.2.2.2.2.2.2.2.2.2.2.1 s.2.2.2.2.2.2.2.2.2.2.2.1 s.2.2.2.2.2.2.2.2.2.2.2.2.1 s.2.2.2.2.2.2.2.2.2.2.2.2.2) (fun n s hI hk => hs n s.1 s.2.1 s.2.2.1 s.2.2.2.1 s.2.2.2.2.1 s.2.2.2.2.2.1 s.2.2.2.2.2.2.1 s.2.2.2.2.2.2.2.1 s.2.2.2.2.2.2.2.2.1 s.2.2.2.2.2.2.2.2.2.1 s.2.2.2.2.2.2.2.2.2.2.1 s.2.2.2.2.2.2.2.2.2.2.2.1 s.2.2.2.2.2.2.2.2.2.2.2.2.1 s.2.2.2.2.2.2.2.2.2.2.2.2.2 hI (fun b1 b2 b3 b4 b5 b6 b7 b8 b9 b10 b11 b12 b13 b14 h9 hm => hk (b1, b2, b3, b4, b5, b6, b7, b8, b9, b10, b11, b12, b13, b14) h9 hm)) (a1, a2, a3, a4, a5, a6, a7, a8, a9, a10, a11, a12, a13, a14) h
theorem lp15 {A1 A2 A3 A4 A5 A6 A7 A8 A9 A10 A11 A12 A13 A14 A15 : Type} (W : Nat → A1 → A2 → A3 → A4 → A5 → A6 → A7 → A8 → A9 → A10 → A11 → A12 → A13 → A14 → A15 → Prop) (I : A1 → A2 → A3 → A4 → A5 → A6 → A7 → A8 → A9 → A10 → A11 → A12 → A13 → A14 → A15 → Prop) (μ : A1 → A2 → A3 → A4 → A5 → A6 → A7 → A8 → A9 → A10 → A11 → A12 → A13 → A14 → A15 → Nat) (hs : ∀ (n : Nat) (a1 : A1) (a2 : A2) (a3 : A3) (a4 : A4) (a5 : A5) (a6 : A6) (a7 : A7) (a8 : A8) (a9 : A9) (a10 : A10) (a11 : A11) (a12 : A12) (a13 : A13) (a14 : A14) (a15 : A15), I a1 a2 a3 a4 a5 a6 a7 a8 a9 a10 a11 a12 a13 a14 a15 → (∀ (b1 : A1) (b2 : A2) (b3 : A3) (b4 : A4) (b5 : A5) (b6 : A6) (b7 : A7) (b8 : A8) (b9 : A9) (b10 : A10) (b11 : A11) (b12 : A12) (b13 : A13) (b14 : A14) (b15 : A15), I b1 b2 b3 b4 b5 b6 b7 b8 b9 b10 b11 b12 b13 b14 b15 → μ b1 b2 b3 b4 b5 b6 b7 b8 b9 b10 b11 b12 b13 b14 b15 < μ a1 a2 a3 a4 a5 a6 a7 a8 a9 a10 a11 a12 a13 a14 a15 → W n b1 b2 b3 b4 b5 b6 b7 b8 b9 b10 b11 b12 b13 b14 b15) → W (n + 1) a1 a2 a3 a4 a5 a6 a7 a8 a9 a10 a11 a12 a13 a14 a15) (a1 : A1) (a2 : A2) (a3 : A3) (a4 : A4) (a5 : A5) (a6 : A6) (a7 : A7) (a8 : A8) (a9 : A9) (a10 : A10) (a11 : A11) (a12 : A12) (a13 : A13) (a14 : A14) (a15 : A15) (h : I a1 a2 a3 a4 a5 a6 a7 a8 a9 a10 a11 a12 a13 a14 a15) : ∃ n, W n a1 a2 a3 a4 a5 a6 a7 a8 a9 a10 a11 a12 a13 a14 a15 :=
  loop_m (σ := A1 × A2 × A3 × A4 × A5 × A6 × A7 × A8 × A9 × A10 × A11 × A12 × A13 × A14 × A15) (fun n s => W n s.1 s.2.1 s.2.2.1 s.2.2.2.1 s.2.2.2.2.1 s.2.2.2.2.2.1 s.2.2.2.2.2.2.1 s.2.2.2.2.2.2.2.1 s.2.2.2.2.2.2.2.2.1 s.2.2.2.2.2.2.2.2.2.1 s.2.2.2.2.2.2.2.2.2.2.1 s.2.2.2.2.2.2.2.2.2.2.2.1 s.2.2.2.2.2.2.2.2.2.2.2.2.1 s.2.2.2.2.2.2.2.2.2.2.2.2.2.1 s.2.2.2.2.2.2.2.2.2.2.2.2.2.2) (fun s => I s.1 s.2.1 s.2.2.1 s.2.2.2.1 s.2.2.2.2.1 s.2.2.2.2.2.1 s.2.2.2.2.2.2.1 s.2.2.2.2.2.2.2.1 s.2.2.2.2.2.2.2.2.1 s.2.2.2.2.2.2.2.2.2.1 s.2.2.2.2.2.2.2.2.2.2.1 s.2.2.2.2.2.2.2.2.2.2.2.1 s.2.2.2.2.2.2.2.2.2.2.2.2.1 s.2.2.2.2.2.2.2.2.2.2.2.2.2.1 s.2.2.2.2.2.2.2.2.2.2.2.2.2.2) (fun s => μ s.1 s.2.1 s.2.2.1 s.2.2.2.1 s.2.2.2.2.1 s.2.2.2.2.2.1 s.2.2.2.2.2.2.1 s.2.2.2.2.2.2.2.1 s.2.2.2.2.2.2.2.2.1 s.2.2.2.2.2.2.2.2.2.1 s.2.2.2.2.2.2.2.2.2.2.1 s.2.2.2.2.2.2.2.2.2.2.2.1 s.2.2.2.2.2.2.2.2.2.2.2.2.1 s.2.2.2.2.2.2.2.2.2.2.2.2.2.1 s.2.2.2.2.2.2.2.2.2.2.2.2.2.2) (fun n s hI hk => hs n s.1 s.2.1 s.2.2.1 s.2.2.2.1 s.2.2.2.2.1 s.2.2.2.2.2.1 s.2.2.2.2.2.2.1 s.2.2.2.2.2.2.2.1 s.2.2.2.2.2.2.2.2.1 s.2.2.2.2.2.2.2.2.2.1 s.2.2.2.2.2.2.2.2.2.2.1 s.2.2.2.2.2.2.2.2.2.2.2.1 s.2.2.2.2.2.2.2.2.2.2.2.2.1 s.2.2.2.2.2.2.2.2.2.2.2.2.2.1 s.2.2.2.2.2.2.2.2.2.2.2.2.2.2 hI (fun b1 b2 b3 b4 b5 b6 b7 b8 b9 b10 b11 b12 b13 b14 b15 h9 hm => hk (b1, b2, b3, b4, b5, b6, b7, b8, b9, b10, b11, b12, b13, b14, b15) h9 hm)) (a1, a2, a3, a4, a5, a6, a7, a8, a9, a10, a11, a12, a13, a14, a15) h
theorem lp16 {A1 A2 A3 A4 A5 A6 A7 A8 A9 A10 A11 A12 A13 A14 A15 A16 : Type} (W : Nat → A1 → A2 → A3 → A4 → A5 → A6 → A7 → A8 → A9 → A10 → A11 → A12 → A13 → A14 → A15 → A16 → Prop) (I : A1 → A2 → A3 → A4 → A5 → A6 → A7 → A8 → A9 → A10 → A11 → A12 → A13 → A14 → A15 → A16 → Prop) (μ : A1 → A2 → A3 → A4 → A5 → A6 → A7 → A8 → A9 → A10 → A11 → A12 → A13 → A14 → A15 → A16 → Nat) (hs : ∀ (n : Nat) (a1 : A1) (a2 : A2) (a3 : A3) (a4 : A4) (a5 : A5) (a6 : A6) (a7 : A7) (a8 : A8) (a9 : A9) (a10 : A10) (a11 : A11) (a12 : A12) (a13 : A13) (a14 : A14) (a15 : A15) (a16 : A16), I a1 a2 a3 a4 a5 a6 a7 a8 a9 a10 a11 a12 a13 a14 a15 a16 → (∀ (b1 : A1) (b2 : A2) (b3 : A3) (b4 : A4) (b5 : A5) (b6 : A6) (b7 : A7) (b8 : A8) (b9 : A9) (b10 : A10) (b11 : A11) (b12 : A12) (b13 : A13) (b14 : A14) (b15 : A15) (b16 : A16), I b1 b2 b3 b4 b5 b6 b7 b8 b9 b10 b11 b12 b13 b14 b15 b16 → μ b1 b2 b3 b4 b5 b6 b7 b8 b9 b10 b11 b12 b13 b14 b15 b16 < μ a1 a2 a3 a4 a5 a6 a7 a8 a9 a10 a11 a12 a13 a14 a15 a16 → W n b1 b2 b3 b4 b5 b6 b7 b8 b9 b10 b11 b12 b13 b14 b15 b16) → W (n + 1) a1 a2 a3 a4 a5 a6 a7 a8 a9 a10 a11 a12 a13 a14 a15 a16) (a1 : A1) (a2 : A2) (a3 : A3) (a4 : A4) (a5 : A5) (a6 : A6) (a7 : A7) (a8 : A8) (a9 : A9) (a10 : A10) (a11 : A11) (a12 : A12) (a13 : A13) (a14 : A14) (a15 : A15) (a16 : A16) (h : I a1 a2 a3 a4 a5 a6 a7 a8 a9 a10 a11 a12 a13 a14 a15 a16) : ∃ n, W n a1 a2 a3 a4 a5 a6 a7 a8 a9 a10 a11 a12 a13 a14 a15 a16 :=
  loop_m (σ := A1 × A2 × A3 × A4 × A5 × A6 × A7 × A8 × A9 × A10 × A11 × A12 × A13 × A14 × A15 × A16) (fun n s => W n s.1 s.2.1 s.2.2.1 s.2.2.2.1 s.2.2.2.2.1 s.2.2.2.2.2.1 s.2.2.2.2.2.2.1 s.2.2.2.2.2.2.2.1 s.2.2.2.2.2.2.2.2.1 s.2.2.2.2.2.2.2.2.2.1 s.2.2.2.2.2.2.2.2.2.2.1 s.2.2.2.2.2.2.2.2.2.2.2.1 s.2.2.2.2.2.2.2.2.2.2.2.2.1 s.2.2.2.2.2.2.2.2.2.2.2.2.2.1 s.2.2.2.2.2.2.2.2.2.2.2.2.2.2.1 s.2.2.2.2.2.2.2.2.2.2.2.2.2.2.2) (fun s => I s.1 s.2.1 s.2.2.1 s.2.2.2.1 s.2.2.2.2.1 s.2.2.2.2.2.1 s.2.2.2.2.2.2.1 s.2.2.2.2.2.2.2.1 s.2.2.2.2.2.2.2.2.1 s.2.2.2.2.2.2.2.2.2.1 s.2.2.2.2.2.2.2.2.2.2.1 s.2.2.2.2.2.2.2.2.2.2.2.1 s.2.2.2.2.2.2.2.2.2.2.2.2.1 s.2.2.2.2.2.2.2.2.2.2.2.2.2.1 s.2.2.2.2.2.2.2.2.2.2.2.2.2.2.1 s.2.2.2.2.2.2.2.2.2.2.2.2.2.2.2) (fun s => μ s.1 s.2.1 s.2.2.1 s.2.2.2.1 s.2.2.2.2.1 s.2.2.2.2.2.1 s.2.2.2.2.2.2.1 s.2.2.2.2.2.2.2.1 s.2.2.2.2.2.2.2.2.1 s.2.2.2.2.2.2.2.2.2.1 s.2.2.2.2.2.2.2.2.2.2.1 s.2.2.2.2.2.2.2.2.2.2.2.1 s.2.2.2.2.2.2.2.2.2.2.2.2.1 s.2.2.2.2.2.2.2.2.2.2.2.2.2.1 s.2.2.2.2.2.2.2.2.2.2.2.2.2.2.1 s.2.2.2.2.2.2.2.2.2.2.2.2.2.2.2) (fun n s hI hk => hs n s.1 s.2.1 s.2.2.1 s.2.2.2.1 s.2.2.2.2.1 s.2.2.2.2.2.1 s.2.2.2.2.2.2.1 s.2.2.2.2.2.2.2.1 s.2.2.2.2.2.2.2.2.1 s.2.2.2.2.2.2.2.2.2.1 s.2.2.2.2.2.2.2.2.2.2.1 s.2.2.2.2.2.2.2.2.2.2.2.1 s.2.2.2.2.2.2.2.2.2.2.2.2.1 s.2.2.2.2.2.2.2.2.2.2.2.2.2.1 s.2.2.2.2.2.2.2.2.2.2.2.2.2.2.1 s.2.2.2.2.2.2.2.2.2.2.2.2.2.2.2 hI (fun b1 b2 b3 b4 b5 b6 b7 b8 b9 b10 b11 b12 b13 b14 b15 b16 h9 hm => hk (b1, b2, b3, b4, b5, b6, b7, b8, b9, b10, b11, b12, b13, b14, b15, b16) h9 hm)) (a1, a2, a3, a4, a5, a6, a7, a8, a9, a10, a11, a12, a13, a14, a15, a16) h
theorem pk_least (P : Nat → Prop) (h : ∃ k, P k) : ∃ k, P k ∧ ∀ j, j < k → ¬ P j := by
  obtain ⟨k, hk⟩ := h
  induction k using Nat.strongRecOn with
  | ind k ih =>
    by_cases e : ∃ j, j < k ∧ P j
    · obtain ⟨j, hj, pj⟩ := e
      exact ih j hj pj
    · exact ⟨k, hk, fun j hj pj => e ⟨j, hj, pj⟩⟩
theorem rp1 {ρ A1 : Type} (W : Nat → (ρ → Prop) → A1 → Prop) (ok : A1 → Prop) (μ : A1 → Nat) (val : A1 → ρ)
    (hs : ∀ (d : Nat) (post : ρ → Prop) (a1 : A1), ok a1 → post (val a1) → (∀ (post' : ρ → Prop) (b1 : A1), ok b1 → μ b1 < μ a1 → post' (val b1) → W d post' b1) → W (d + 1) post a1) :
    ∀ (d : Nat) (post : ρ → Prop) (a1 : A1), ok a1 → μ a1 < d → post (val a1) → W d post a1 := by
  intro d
  induction d with
  | zero => intro post a1 _ h; omega
  | succ d ih =>
    intro post a1 ho hm hp
    exact hs d post a1 ho hp (fun post' b1 ho' hm' hp' => ih post' b1 ho' (by omega) hp')
theorem rp2 {ρ A1 A2 : Type} (W : Nat → (ρ → Prop) → A1 → A2 → Prop) (ok : A1 → A2 → Prop) (μ : A1 → A2 → Nat) (val : A1 → A2 → ρ)
    (hs : ∀ (d : Nat) (post : ρ → Prop) (a1 : A1) (a2 : A2), ok a1 a2 → post (val a1 a2) → (∀ (post' : ρ → Prop) (b1 : A1) (b2 : A2), ok b1 b2 → μ b1 b2 < μ a1 a2 → post' (val b1 b2) → W d post' b1 b2) → W (d + 1) post a1 a2) :
    ∀ (d : Nat) (post : ρ → Prop) (a1 : A1) (a2 : A2), ok a1 a2 → μ a1 a2 < d → post (val a1 a2) → W d post a1 a2 := by
  intro d
  induction d with
  | zero => intro post a1 a2 _ h; omega
  | succ d ih =>
    intro post a1 a2 ho hm hp
    exact hs d post a1 a2 ho hp (fun post' b1 b2 ho' hm' hp' => ih post' b1 b2 ho' (by omega) hp')
theorem rp3 {ρ A1 A2 A3 : Type} (W : Nat → (ρ → Prop) → A1 → A2 → A3 → Prop) (ok : A1 → A2 → A3 → Prop) (μ : A1 → A2 → A3 → Nat) (val : A1 → A2 → A3 → ρ)
    (hs : ∀ (d : Nat) (post : ρ → Prop) (a1 : A1) (a2 : A2) (a3 : A3), ok a1 a2 a3 → post (val a1 a2 a3) → (∀ (post' : ρ → Prop) (b1 : A1) (b2 : A2) (b3 : A3), ok b1 b2 b3 → μ b1 b2 b3 < μ a1 a2 a3 → post' (val b1 b2 b3) → W d post' b1 b2 b3) → W (d + 1) post a1 a2 a3) :
    ∀ (d : Nat) (post : ρ → Prop) (a1 : A1) (a2 : A2) (a3 : A3), ok a1 a2 a3 → μ a1 a2 a3 < d → post (val a1 a2 a3) → W d post a1 a2 a3 := by
  intro d
  induction d with
  | zero => intro post a1 a2 a3 _ h; omega
  | succ d ih =>
    intro post a1 a2 a3 ho hm hp
    exact hs d post a1 a2 a3 ho hp (fun post' b1 b2 b3 ho' hm' hp' => ih post' b1 b2 b3 ho' (by omega) hp')
theorem rp4 {ρ A1 A2 A3 A4 : Type} (W : Nat → (ρ → Prop) → A1 → A2 → A3 → A4 → Prop) (ok : A1 → A2 → A3 → A4 → Prop) (μ : A1 → A2 → A3 → A4 → Nat) (val : A1 → A2 → A3 → A4 → ρ)
    (hs : ∀ (d : Nat) (post : ρ → Prop) (a1 : A1) (a2 : A2) (a3 : A3) (a4 : A4), ok a1 a2 a3 a4 → post (val a1 a2 a3 a4) → (∀ (post' : ρ → Prop) (b1 : A1) (b2 : A2) (b3 : A3) (b4 : A4), ok b1 b2 b3 b4 → μ b1 b2 b3 b4 < μ a1 a2 a3 a4 → post' (val b1 b2 b3 b4) → W d post' b1 b2 b3 b4) → W (d + 1) post a1 a2 a3 a4) :
    ∀ (d : Nat) (post : ρ → Prop) (a1 : A1) (a2 : A2) (a3 : A3) (a4 : A4), ok a1 a2 a3 a4 → μ a1 a2 a3 a4 < d → post (val a1 a2 a3 a4) → W d post a1 a2 a3 a4 := by
  intro d
  induction d with
  | zero => intro post a1 a2 a3 a4 _ h; omega
  | succ d ih =>
    intro post a1 a2 a3 a4 ho hm hp
    exact hs d post a1 a2 a3 a4 ho hp (fun post' b1 b2 b3 b4 ho' hm' hp' => ih post' b1 b2 b3 b4 ho' (by omega) hp')
theorem rp5 {ρ A1 A2 A3 A4 A5 : Type} (W : Nat → (ρ → Prop) → A1 → A2 → A3 → A4 → A5 → Prop) (ok : A1 → A2 → A3 → A4 → A5 → Prop) (μ : A1 → A2 → A3 → A4 → A5 → Nat) (val : A1 → A2 → A3 → A4 → A5 → ρ)
    (hs : ∀ (d : Nat) (post : ρ → Prop) (a1 : A1) (a2 : A2) (a3 : A3) (a4 : A4) (a5 : A5), ok a1 a2 a3 a4 a5 → post (val a1 a2 a3 a4 a5) → (∀ (post' : ρ → Prop) (b1 : A1) (b2 : A2) (b3 : A3) (b4 : A4) (b5 : A5), ok b1 b2 b3 b4 b5 → μ b1 b2 b3 b4 b5 < μ a1 a2 a3 a4 a5 → post' (val b1 b2 b3 b4 b5) → W d post' b1 b2 b3 b4 b5) → W (d + 1) post a1 a2 a3 a4 a5) :
    ∀ (d : Nat) (post : ρ → Prop) (a1 : A1) (a2 : A2) (a3 : A3) (a4 : A4) (a5 : A5), ok a1 a2 a3 a4 a5 → μ a1 a2 a3 a4 a5 < d → post (val a1 a2 a3 a4 a5) → W d post a1 a2 a3 a4 a5 := by
  intro d
  induction d with
  | zero => intro post a1 a2 a3 a4 a5 _ h; omega
  | succ d ih =>
    intro post a1 a2 a3 a4 a5 ho hm hp
    exact hs d post a1 a2 a3 a4 a5 ho hp (fun post' b1 b2 b3 b4 b5 ho' hm' hp' => ih post' b1 b2 b3 b4 b5 ho' (by omega) hp')
theorem rp6 {ρ A1 A2 A3 A4 A5 A6 : Type} (W : Nat → (ρ → Prop) → A1 → A2 → A3 → A4 → A5 → A6 → Prop) (ok : A1 → A2 → A3 → A4 → A5 → A6 → Prop) (μ : A1 → A2 → A3 → A4 → A5 → A6 → Nat) (val : A1 → A2 → A3 → A4 → A5 → A6 → ρ)
    (hs : ∀ (d : Nat) (post : ρ → Prop) (a1 : A1) (a2 : A2) (a3 : A3) (a4 : A4) (a5 : A5) (a6 : A6), ok a1 a2 a3 a4 a5 a6 → post (val a1 a2 a3 a4 a5 a6) → (∀ (post' : ρ → Prop) (b1 : A1) (b2 : A2) (b3 : A3) (b4 : A4) (b5 : A5) (b6 : A6), ok b1 b2 b3 b4 b5 b6 → μ b1 b2 b3 b4 b5 b6 < μ a1 a2 a3 a4 a5 a6 → post' (val b1 b2 b3 b4 b5 b6) → W d post' b1 b2 b3 b4 b5 b6) → W (d + 1) post a1 a2 a3 a4 a5 a6) :
    ∀ (d : Nat) (post : ρ → Prop) (a1 : A1) (a2 : A2) (a3 : A3) (a4 : A4) (a5 : A5) (a6 : A6), ok a1 a2 a3 a4 a5 a6 → μ a1 a2 a3 a4 a5 a6 < d → post (val a1 a2 a3 a4 a5 a6) → W d post a1 a2 a3 a4 a5 a6 := by
  intro d
  induction d with
  | zero => intro post a1 a2 a3 a4 a5 a6 _ h; omega
  | succ d ih =>
    intro post a1 a2 a3 a4 a5 a6 ho hm hp
    exact hs d post a1 a2 a3 a4 a5 a6 ho hp (fun post' b1 b2 b3 b4 b5 b6 ho' hm' hp' => ih post' b1 b2 b3 b4 b5 b6 ho' (by omega) hp')
theorem rec_p {σ ρ : Type} (W : Nat → (ρ → Prop) → σ → Prop) (ok : σ → Prop) (μ : σ → Nat) (val : σ → ρ)
    (hs : ∀ d s post, ok s → post (val s) → (∀ s' post', ok s' → μ s' < μ s → post' (val s') → W d post' s') → W (d + 1) post s) :
    ∀ d s post, ok s → μ s < d → post (val s) → W d post s := by
  intro d
  induction d with
  | zero => intro s post _ h; omega
  | succ d ih =>
    intro s post ho hm hp
    exact hs d s post ho hp (fun s' post' ho' hm' hp' => ih s' post' ho' (by omega) hp')
theorem rec_q {σ ρ : Type} (W : Nat → (ρ → Prop) → σ → Prop) (ok : σ → Prop) (μ : σ → Nat) (Q : σ → ρ → Prop)
    (hs : ∀ d s post, ok s → (∀ r, Q s r → post r) → (∀ s' post', ok s' → μ s' < μ s → (∀ r, Q s' r → post' r) → W d post' s') → W (d + 1) post s) :
    ∀ d s post, ok s → μ s < d → (∀ r, Q s r → post r) → W d post s := by
  intro d
  induction d with
  | zero => intro s post _ h; omega
  | succ d ih =>
    intro s post ho hm hp
    exact hs d s post ho hp (fun s' post' ho' hm' hp' => ih s' post' ho' (by omega) hp')
def bx_sum (f : Nat → Int32) : Nat → Int32
  | 0 => 0
  | n + 1 => bx_sum f n + f n
theorem ek_u {A : Prop} {B : Nat → Prop} {k N : Nat} (hk : k < N) (h : B k) : (some k = none → A) ∧ (∀ y : Nat, some k = some y → (y < N ∧ B y)) :=
  ⟨fun z => absurd z (Option.some_ne_none k), fun _ e => (by cases e; exact ⟨hk, h⟩)⟩
theorem ek_nu {A : Prop} {B : Nat → Prop} (h : A) : ((none : Option Nat) = none → A) ∧ (∀ y : Nat, (none : Option Nat) = some y → B y) :=
  ⟨fun _ => h, fun _ e => (by cases e)⟩
theorem ek_if {c d A B : Prop} (e : c ↔ d) (f : d → A) (g : ¬ d → B) : (c → A) ∧ (¬ c → B) :=
  ⟨fun z => f (e.mp z), fun z => g (fun y => z (e.mpr y))⟩
theorem ek_v {α : Sort _} {P : α → Prop} {a b : α} (e : a = b) (h : P b) : P a := e ▸ h
theorem co_some {x : Option Nat} {A : Prop} {B : Nat → Prop} (i : Nat) (h : B i) (hx : x = some i := by rfl) : (x = none → A) ∧ (∀ y : Nat, x = some y → B y) := by
  subst hx
  exact ⟨fun e => (nomatch e), fun y e => Option.some.inj e ▸ h⟩
theorem co_none {x : Option Nat} {A : Prop} {B : Nat → Prop} (h : A) (hx : x = none := by rfl) : (x = none → A) ∧ (∀ y : Nat, x = some y → B y) := by
  subst hx
  exact ⟨fun _ => h, fun y e => (nomatch e)⟩
theorem co_any {x : Option Nat} {A : Prop} {B : Nat → Prop} (hn : x = none → A) (hs : ∀ i : Nat, x = some i → B i) : (x = none → A) ∧ (∀ y : Nat, x = some y → B y) := ⟨hn, hs⟩
theorem co_2 {P : Nat → Prop} (h0 : P 0) (h1 : P 1) {i : Nat} (hi : i < 2) : P i :=
  match i, hi with
  | 0, _ => h0
  | 1, _ => h1
theorem co_3 {P : Nat → Prop} (h0 : P 0) (h1 : P 1) (h2 : P 2) {i : Nat} (hi : i < 3) : P i :=
  match i, hi with
  | 0, _ => h0
  | 1, _ => h1
  | 2, _ => h2
theorem co_4 {P : Nat → Prop} (h0 : P 0) (h1 : P 1) (h2 : P 2) (h3 : P 3) {i : Nat} (hi : i < 4) : P i :=
  match i, hi with
  | 0, _ => h0
  | 1, _ => h1
  | 2, _ => h2
  | 3, _ => h3
theorem co_dec {N : Nat} {P : Nat → Prop} [DecidablePred P] (h : (List.range N).all (fun i => decide (P i)) = true) {i : Nat} (hi : i < N) : P i := by
  have := List.all_eq_true.mp h i (List.mem_range.mpr hi)
  exact of_decide_eq_true this
theorem co_tab {α : Type} {l : List α} {d : α} {P : α → Prop} (h : ∀ a, a ∈ l → P a) {i : Nat} (hi : i < l.length) : P (l.getD i d) := by
  rw [List.getD_eq_getElem?_getD, List.getElem?_eq_getElem hi]
  exact h _ (List.getElem_mem hi)
theorem pk_mu {x : Int32} {L : Nat} (h0 : ¬ x < 0) (h : ¬ nI L ≤ x) (hL : L < 2 ^ 31) : ∃ j : Nat, j < L ∧ x = nI j ∧ x + 1 = nI (j + 1) ∧ x.toNatClampNeg = j ∧ L - (x + 1).toNatClampNeg < L - x.toNatClampNeg := by
  obtain ⟨j, hj, rfl⟩ := nI_of h0
  have hl : j < L := Nat.not_le.mp fun q => h (nI_le q hj)
  refine ⟨j, hl, rfl, nI_1 j, nI_clamp hj, ?_⟩
  rw [nI_1, nI_clamp (by omega), nI_clamp hj]
  omega
theorem op_s {α : Type} {r : Option α} {A : Prop} {B : α → Prop} {y : α} (h : r = some y) (b : B y) : (r = none → A) ∧ ∀ z, r = some z → B z :=
  ⟨fun e => (by rw [h] at e; cases e), fun z e => (by rw [h] at e; cases e; exact b)⟩
def l_holds {α : Type} (a : Nat → Option Nat) (LP : List Nat) (p : Nat → α) (c : Nat) (b : Nat → α) : Prop :=
  ∀ j, j < c → ∃ y, a j = some y ∧ y ∈ LP ∧ p y = b j
theorem l_holds_0 {α : Type} {a : Nat → Option Nat} {LP : List Nat} {p b : Nat → α} : l_holds a LP p 0 b := fun j h => absurd h (Nat.not_lt_zero j)
theorem l_in_new (LP : List Nat) (q : Nat) : q ∈ LP ++ [q] := List.mem_append.mpr (Or.inr (List.mem_singleton.mpr rfl))
def l_sum (b : Nat → Int32) : Nat → Int32
  | 0 => 0
  | k + 1 => l_sum b k + b k
theorem sb_shr0 (x : Int32) : x >>> ((0 : Int32) &&& 31) = x := by
  rw [show ((0 : Int32) &&& 31) = 0 by decide]
  simp
theorem sb_shl0 (x : Int32) : x <<< ((0 : Int32) &&& 31) = x := by
  rw [show ((0 : Int32) &&& 31) = 0 by decide]
  simp
theorem sb_cl0 : (0 : Int32).toNatClampNeg = 0 := by decide
theorem sb_m1 {p : Nat} (h : 0 < p) : nI p + (-1) = nI (p - 1) := by
  obtain ⟨q, rfl⟩ : ∃ q, p = q + 1 := ⟨p - 1, by omega⟩
  exact pk_m1 q
def sb_b (c : Nat) : Int32 := (nI c).toInt8.toInt32
theorem sb_byte : ∀ c, c < 256 → sb_b c &&& 255 = nI c ∧ ((nI c).toUInt32 % 65536).toInt32 = nI c ∧ nI c ≤ 255 := by decide +kernel
def sb_Fit (a : Nat → Int32) : Prop := ∀ j, fits .byte (.int (a j)) = true
def sb_Lat (t : Nat → Nat) (n : Nat) (a : Nat → Int32) : Prop := ∀ j, j < n → t j < 256 ∧ a j = sb_b (t j)
theorem sb_fitB (c : Nat) : fits .byte (.int (sb_b c)) = true := pk_fb _
theorem sb_fit0 : sb_Fit (fun _ => 0) := fun _ => by
  show fits .byte (.int 0) = true
  decide
theorem sb_fitU {a : Nat → Int32} {k : Nat} {x : Int32} (h : sb_Fit a) (hx : fits .byte (.int x) = true) : sb_Fit (upd a k x) := by
  intro j
  by_cases e : j = k
  · subst e
    rw [pk_us]
    exact hx
  · rw [pk_un e]
    exact h j
def sb_cat (t : Nat → Nat) (n : Nat) (s : Nat → Nat) : Nat → Nat := fun j => if j < n then t j else s (j - n)
theorem sb_cat_lo {t s : Nat → Nat} {n j : Nat} (h : j < n) : sb_cat t n s j = t j := if_pos h
theorem sb_cat_hi {t s : Nat → Nat} {n j : Nat} : sb_cat t n s (n + j) = s j := by
  show (if n + j < n then t (n + j) else s (n + j - n)) = s j
  rw [if_neg (by omega), Nat.add_sub_cancel_left]
theorem sb_latPut {t s : Nat → Nat} {n w : Nat} {a a' : Nat → Int32} (h : sb_Lat t n a) (hk : ∀ j, j < n → a' j = a j) (hs : ∀ i, i < w → s i < 256 ∧ a' (n + i) = sb_b (s i)) : sb_Lat (sb_cat t n s) (n + w) a' := by
  intro j hj
  by_cases e : j < n
  · rw [sb_cat_lo e, hk j e]
    exact h j e
  · obtain ⟨i, rfl⟩ : ∃ i, j = n + i := ⟨j - n, by omega⟩
    rw [sb_cat_hi]
    exact hs i (by omega)
theorem sb_latKeep {t : Nat → Nat} {n : Nat} {a a' : Nat → Int32} (h : sb_Lat t n a) (hk : ∀ j, j < n → a' j = a j) : sb_Lat t n a' := fun j hj => by
  rw [hk j hj]
  exact h j hj
def sb_cap (q m : Nat) : Nat := if q ≤ m then m else if 2 * m + 2 < q then q else 2 * m + 2
def sb_Room (q m mc ms : Nat) : Prop := q ≤ m ∨ (1 ≤ mc ∧ sb_cap q m ≤ ms ∧ sb_cap q m ≤ 65536)
theorem sb_cap_ge (q m : Nat) : q ≤ sb_cap q m := by
  unfold sb_cap
  split
  · omega
  · split <;> omega
theorem sb_cap_gem (q m : Nat) : m ≤ sb_cap q m := by
  unfold sb_cap
  split
  · omega
  · split <;> omega
theorem sb_cap_le {q m mc ms : Nat} (hm : m ≤ 65536) (hr : sb_Room q m mc ms) : sb_cap q m ≤ 65536 := by
  rcases hr with h | h
  · rw [sb_cap, if_pos h]
    exact hm
  · exact h.2.2
theorem sb_at {P : Int32 → Prop} {x y : Int32} (e : x = y) (h : P y) : P x := e ▸ h
def sb_dg (w : Nat) : Nat := if w < 10 then 1 else if w < 100 then 2 else if w < 1000 then 3 else if w < 10000 then 4 else if w < 100000 then 5 else if w < 1000000 then 6 else if w < 10000000 then 7 else if w < 100000000 then 8 else if w < 1000000000 then 9 else 10
def sb_dec (v : Nat) : Nat → Nat := fun i => 48 + v / 10 ^ (sb_dg v - 1 - i) % 10
theorem sb_dg_in (w : Nat) : 1 ≤ sb_dg w ∧ sb_dg w ≤ 10 := by
  unfold sb_dg
  constructor <;> (repeat' split) <;> omega
theorem sb_dg100 {w : Nat} (h : 100 ≤ w) (hw : w < 2 ^ 31) : sb_dg w = sb_dg (w / 100) + 2 := by
  rw [sb_dg, sb_dg, if_neg (show ¬ w < 10 by omega), if_neg (show ¬ w < 100 by omega)]
  by_cases h3 : w < 1000
  · rw [if_pos h3, if_pos (show w / 100 < 10 by omega)]
  rw [if_neg h3, if_neg (show ¬ w / 100 < 10 by omega)]
  by_cases h4 : w < 10000
  · rw [if_pos h4, if_pos (show w / 100 < 100 by omega)]
  rw [if_neg h4, if_neg (show ¬ w / 100 < 100 by omega)]
  by_cases h5 : w < 100000
  · rw [if_pos h5, if_pos (show w / 100 < 1000 by omega)]
  rw [if_neg h5, if_neg (show ¬ w / 100 < 1000 by omega)]
  by_cases h6 : w < 1000000
  · rw [if_pos h6, if_pos (show w / 100 < 10000 by omega)]
  rw [if_neg h6, if_neg (show ¬ w / 100 < 10000 by omega)]
  by_cases h7 : w < 10000000
  · rw [if_pos h7, if_pos (show w / 100 < 100000 by omega)]
  rw [if_neg h7, if_neg (show ¬ w / 100 < 100000 by omega)]
  by_cases h8 : w < 100000000
  · rw [if_pos h8, if_pos (show w / 100 < 1000000 by omega)]
  rw [if_neg h8, if_neg (show ¬ w / 100 < 1000000 by omega)]
  by_cases h9 : w < 1000000000
  · rw [if_pos h9, if_pos (show w / 100 < 10000000 by omega)]
  rw [if_neg h9, if_neg (show ¬ w / 100 < 10000000 by omega)]
  rw [if_pos (show w / 100 < 100000000 by omega)]
theorem sb_negT {w : Nat} (h : w < 2 ^ 31) : (-nI w).toInt = -(w : Int) := by
  rw [Int32.toInt_neg, nI_toInt h]
  exact Int.bmod_eq_of_le (by omega) (by omega)
theorem sb_nle {a b : Nat} (ha : a < 2 ^ 31) (hb : b < 2 ^ 31) : -nI a ≤ -nI b ↔ b ≤ a := by
  rw [Int32.le_iff_toInt_le, sb_negT ha, sb_negT hb]
  omega
theorem sb_nlt {a b : Nat} (ha : a < 2 ^ 31) (hb : b < 2 ^ 31) : -nI a < -nI b ↔ b < a := by
  rw [Int32.lt_iff_toInt_lt, sb_negT ha, sb_negT hb]
  omega
theorem sb_cmp {A B : Prop} {x : Int32} (v c : Nat) (f : c ≤ v → A) (g : v < c → B) (hv : v < 2 ^ 31) (hx : x = -nI c := by rfl) (hc : c < 2 ^ 31 := by omega) : (-nI v ≤ x → A) ∧ (¬ -nI v ≤ x → B) := by
  subst hx
  rw [sb_nle hv hc]
  exact ⟨f, fun z => g (by omega)⟩
theorem sb_ndiv {w : Nat} (hw : w < 2 ^ 31) : (-nI w) / 100 = -nI (w / 100) := by
  apply Int32.toInt_inj.mp
  have h100 : (100 : Int32).toInt = 100 := by decide
  rw [Int32.toInt_div, sb_negT hw, h100, sb_negT (by omega), Int.neg_tdiv, Int.tdiv_eq_ediv_of_nonneg (by omega), Int.bmod_eq_of_le (by omega) (by omega)]
  omega
theorem sb_nrem {w : Nat} (hw : w < 2 ^ 31) : (-nI (w / 100)) * 100 - (-nI w) = nI (w % 100) := by
  have h := pk_rem (a := w) (d := 100) hw (by decide) (by decide)
  rw [pk_div hw (by decide) (by decide)] at h
  rw [← h]
  show (-nI (w / 100)) * nI 100 - (-nI w) = nI w - nI (w / 100) * nI 100
  rw [Int32.neg_mul, Int32.sub_neg, Int32.add_comm, ← Int32.sub_eq_add_neg]
end
section
/-! rows on bits, shifts and unsigned numbers, to paste: each family out of a closed proof of our own, whole with what it rests on; each by itself clean at Lean in its own claim (generation 39, form 5). Take a family whole -/
/-! ===== Int32 by its bits: bt x i ===== -/
def bt (x : Int32) (i : Nat) : Bool := x.toBitVec.getLsbD i
theorem b_ext {x y : Int32} (h : ∀ i, i < 32 → bt x i = bt y i) : x = y := Int32.toBitVec_inj.mp (BitVec.eq_of_getLsbD_eq (fun i hi => h i hi))
theorem b_or (x y : Int32) (i : Nat) : bt (x ||| y) i = (bt x i || bt y i) := by unfold bt; rw [Int32.toBitVec_or, BitVec.getLsbD_or]
theorem b_and (x y : Int32) (i : Nat) : bt (x &&& y) i = (bt x i && bt y i) := by unfold bt; rw [Int32.toBitVec_and, BitVec.getLsbD_and]
theorem b_xor (x y : Int32) (i : Nat) : bt (x ^^^ y) i = (bt x i ^^ bt y i) := by unfold bt; rw [Int32.toBitVec_xor, BitVec.getLsbD_xor]
theorem b_big {x : Int32} {i : Nat} (h : 32 ≤ i) : bt x i = false := BitVec.getLsbD_of_ge _ _ h
theorem b_255 (i : Nat) : bt 255 i = decide (i < 8) := by
  rcases Nat.lt_or_ge i 32 with h | h
  · exact (by decide +kernel : ∀ i, i < 32 → bt 255 i = decide (i < 8)) i h
  · rw [b_big h, decide_eq_false (by omega)]
theorem b_65535 (i : Nat) : bt 65535 i = decide (i < 16) := by
  rcases Nat.lt_or_ge i 32 with h | h
  · exact (by decide +kernel : ∀ i, i < 32 → bt 65535 i = decide (i < 16)) i h
  · rw [b_big h, decide_eq_false (by omega)]
theorem b_m1 : ∀ i, i < 32 → bt (-1) i = true := by decide +kernel
theorem b_0 (i : Nat) : bt 0 i = false := BitVec.getLsbD_zero
theorem s_l : ∀ n, n < 32 → ((nI n &&& 31).toBitVec.smod 32).toNat = n := by decide +kernel
theorem s_u : ∀ n, n < 32 → (((nI n).toUInt32 &&& Int32.toUInt32 31).toBitVec % 32).toNat = n := by decide +kernel
theorem b_shl (n : Nat) (hn : n < 32) (x : Int32) {i : Nat} (hi : i < 32) : bt (x <<< (nI n &&& 31)) i = (decide (n ≤ i) && bt x (i - n)) := by
  unfold bt
  rw [Int32.toBitVec_shiftLeft]
  show (x.toBitVec <<< ((nI n &&& 31).toBitVec.smod 32).toNat).getLsbD i = _
  rw [s_l n hn, BitVec.getLsbD_shiftLeft]
  rcases Nat.lt_or_ge i n with h | h
  · simp [h, Nat.not_le.mpr h]
  · simp [hi, h, Nat.not_lt.mpr h]
theorem b_ushr (n : Nat) (hn : n < 32) (x : Int32) (i : Nat) : bt ((x.toUInt32 >>> ((nI n).toUInt32 &&& Int32.toUInt32 31)).toInt32) i = bt x (n + i) := by
  show (x.toUInt32 >>> ((nI n).toUInt32 &&& Int32.toUInt32 31)).toBitVec.getLsbD i = x.toUInt32.toBitVec.getLsbD (n + i)
  rw [UInt32.toBitVec_shiftRight]
  show (x.toUInt32.toBitVec >>> (((nI n).toUInt32 &&& Int32.toUInt32 31).toBitVec % 32).toNat).getLsbD i = _
  rw [s_u n hn, BitVec.getLsbD_ushiftRight]
theorem b_sshr (n : Nat) (hn : n < 32) (x : Int32) {i : Nat} (hi : i < 32) : bt (x >>> (nI n &&& 31)) i = if n + i < 32 then bt x (n + i) else bt x 31 := by
  unfold bt
  rw [Int32.toBitVec_shiftRight]
  show (x.toBitVec.sshiftRight ((nI n &&& 31).toBitVec.smod 32).toNat).getLsbD i = _
  rw [s_l n hn, BitVec.getLsbD_sshiftRight, BitVec.msb_eq_getLsbD_last]
  simp [hi]
theorem b_shl8 (x : Int32) {i : Nat} (hi : i < 32) : bt (x <<< ((8 : Int32) &&& 31)) i = (decide (8 ≤ i) && bt x (i - 8)) := b_shl 8 (by omega) x hi
theorem b_shl16 (x : Int32) {i : Nat} (hi : i < 32) : bt (x <<< ((16 : Int32) &&& 31)) i = (decide (16 ≤ i) && bt x (i - 16)) := b_shl 16 (by omega) x hi
theorem b_shl24 (x : Int32) {i : Nat} (hi : i < 32) : bt (x <<< ((24 : Int32) &&& 31)) i = (decide (24 ≤ i) && bt x (i - 24)) := b_shl 24 (by omega) x hi
theorem b_sshr8 (x : Int32) {i : Nat} (hi : i < 32) : bt (x >>> ((8 : Int32) &&& 31)) i = if 8 + i < 32 then bt x (8 + i) else bt x 31 := b_sshr 8 (by omega) x hi
/-! ===== nI under and, xor, >>>, one bit, 65535 ===== -/
theorem nx_and (a b : Nat) : nI a &&& nI b = nI (a &&& b) := by
  apply Int32.toBitVec_inj.1
  show BitVec.ofNat 32 a &&& BitVec.ofNat 32 b = BitVec.ofNat 32 (a &&& b)
  apply BitVec.eq_of_getLsbD_eq
  intro i hi
  simp [hi]
theorem nx_xor (a b : Nat) : nI a ^^^ nI b = nI (a ^^^ b) := by
  apply Int32.toBitVec_inj.1
  show BitVec.ofNat 32 a ^^^ BitVec.ofNat 32 b = BitVec.ofNat 32 (a ^^^ b)
  apply BitVec.eq_of_getLsbD_eq
  intro i hi
  simp [hi]
theorem nx_cnt : ∀ j : Fin 32, (UInt32.ofNat j.val &&& Int32.toUInt32 31).toNat % 32 = j.val := by decide +kernel
theorem nx_ush {k j : Nat} (hk : k < 65536) (hj : j < 32) : ((nI k).toUInt32 >>> ((nI j).toUInt32 &&& Int32.toUInt32 31)).toInt32 = nI (k >>> j) := by
  have hs : k >>> j ≤ k := by
    rw [Nat.shiftRight_eq_div_pow]
    exact Nat.div_le_self _ _
  have e2 : UInt32.ofNat k >>> (UInt32.ofNat j &&& Int32.toUInt32 31) = UInt32.ofNat (k >>> j) := by
    apply UInt32.toNat_inj.1
    have h1 : (UInt32.ofNat k).toNat = k := Nat.mod_eq_of_lt (by omega)
    have h2 : (UInt32.ofNat (k >>> j)).toNat = k >>> j := Nat.mod_eq_of_lt (by omega)
    rw [UInt32.toNat_shiftRight, nx_cnt ⟨j, hj⟩, h1, h2]
  show (UInt32.ofNat k >>> (UInt32.ofNat j &&& Int32.toUInt32 31)).toInt32 = _
  rw [e2]
  rfl
theorem nx_bit {k j : Nat} (hk : k < 65536) (hj : j < 16) : (((nI k).toUInt32 >>> ((nI j).toUInt32 &&& Int32.toUInt32 31)).toInt32 &&& 1) = 0 ↔ k.testBit j = false := by
  rw [nx_ush hk (by omega)]
  show nI (k >>> j) &&& nI 1 = 0 ↔ _
  rw [nx_and, Nat.and_one_is_mod, ← nI_0, nI_eq (by omega) (by omega), Nat.testBit_eq_decide_div_mod_eq, Nat.shiftRight_eq_div_pow, decide_eq_false_iff_not]
  generalize k / 2 ^ j = z
  omega
theorem nx_mod (k : Nat) : nI k &&& 65535 = nI (k % 65536) := by
  show nI k &&& nI 65535 = _
  rw [nx_and, show (65535 : Nat) = 2 ^ 16 - 1 from rfl, Nat.and_two_pow_sub_one_eq_mod]
theorem nx_m16 {k : Nat} (h : k < 65536) : nI k &&& 65535 = nI k := by rw [nx_mod, Nat.mod_eq_of_lt h]
theorem nx_mask (x : Int32) : ∃ k, k < 65536 ∧ x &&& 65535 = nI k := by
  have e : x = nI x.toBitVec.toNat := by
    apply Int32.toBitVec_inj.1
    show x.toBitVec = BitVec.ofNat 32 x.toBitVec.toNat
    simp
  refine ⟨x.toBitVec.toNat % 65536, Nat.mod_lt _ (by omega), ?_⟩
  rw [← nx_mod, ← e]
/-! ===== Int32 as a set of bits: test, set ===== -/
def nf_M (m : Int32) : Nat := 4294967296 - m.toBitVec.toNat
theorem nf_sh : ∀ l, l < 32 → ((1 : Int32) <<< (nI l &&& 31)).toBitVec = BitVec.twoPow 32 l := by decide +kernel
theorem nf_sl : ∀ l, l < 32 → (((nI l).toUInt32 &&& Int32.toUInt32 31).toBitVec % 32).toNat = l := by decide +kernel
theorem nf_tp : ∀ l, l < 32 → BitVec.twoPow 32 l ≠ 0#32 := by decide +kernel
theorem nf_bit (m : Int32) (l : Nat) (hl : l < 32) : ((m.toUInt32 >>> ((nI l).toUInt32 &&& Int32.toUInt32 31)).toInt32 &&& 1) = 0 ↔ (m &&& ((1 : Int32) <<< (nI l &&& 31))) = 0 := by
  have e : ((m.toUInt32 >>> ((nI l).toUInt32 &&& Int32.toUInt32 31)).toInt32).toBitVec = m.toBitVec >>> l := by
    show m.toBitVec >>> (((nI l).toUInt32 &&& Int32.toUInt32 31).toBitVec % 32) = m.toBitVec >>> l
    rw [BitVec.ushiftRight_eq', nf_sl l hl]
  rw [← Int32.toBitVec_inj, ← Int32.toBitVec_inj, Int32.toBitVec_and, Int32.toBitVec_and, nf_sh l hl, e, BitVec.and_twoPow]
  show (m.toBitVec >>> l &&& 1#32) = 0#32 ↔ _ = 0#32
  rw [BitVec.and_one_eq_setWidth_ofBool_getLsbD, BitVec.getLsbD_ushiftRight, Nat.add_zero]
  cases hb : m.toBitVec.getLsbD l
  · exact ⟨fun _ => by simp, fun _ => by decide⟩
  · exact ⟨fun z => absurd z (by decide), fun z => absurd ((if_pos rfl).symm.trans z) (nf_tp l hl)⟩
theorem nf_gr (m k : Int32) (h : m &&& k = 0) (hk : k ≠ 0) : nf_M (m ||| k) < nf_M m := by
  have hm := m.toBitVec.isLt
  have hm' := (m ||| k).toBitVec.isLt
  have h1 : m.toBitVec.toNat ≤ (m ||| k).toBitVec.toNat := by
    rw [Int32.toBitVec_or, BitVec.toNat_or]
    exact Nat.left_le_or
  have h2 : m.toBitVec.toNat ≠ (m ||| k).toBitVec.toNat := by
    intro e
    have e2 : m = m ||| k := Int32.toBitVec_inj.mp (BitVec.eq_of_toNat_eq e)
    apply hk
    apply Int32.toBitVec_inj.mp
    show k.toBitVec = 0#32
    apply BitVec.eq_of_getLsbD_eq
    intro i hi
    have a : m.toBitVec.getLsbD i = (m.toBitVec.getLsbD i || k.toBitVec.getLsbD i) := by rw [← BitVec.getLsbD_or, ← Int32.toBitVec_or, ← e2]
    have b : (m.toBitVec.getLsbD i && k.toBitVec.getLsbD i) = false := by
      rw [← BitVec.getLsbD_and, ← Int32.toBitVec_and, h]
      exact BitVec.getLsbD_zero
    rw [BitVec.getLsbD_zero]
    revert a b
    cases m.toBitVec.getLsbD i <;> cases k.toBitVec.getLsbD i <;> simp
  unfold nf_M
  omega
/-! ===== a byte read unsigned ===== -/
theorem bp_b (x : Int32) : x.toInt8.toInt32 &&& 255 = x &&& 255 := by
  apply Int32.toBitVec_inj.mp
  rw [Int32.toBitVec_and, Int32.toBitVec_and, Int8.toBitVec_toInt32, Int32.toBitVec_toInt8]
  apply BitVec.eq_of_getLsbD_eq
  intro i hi
  rw [BitVec.getLsbD_and, BitVec.getLsbD_and]
  have hm : ∀ i < 32, 8 ≤ i → (255 : Int32).toBitVec.getLsbD i = false := by decide
  rcases Nat.lt_or_ge i 8 with z | z
  · rw [BitVec.getLsbD_signExtend, BitVec.getLsbD_signExtend, if_pos z, if_pos hi]
    simp only [z, hi, decide_true, Bool.true_and]
  · rw [hm i hi z]; simp
/-! ===== the char cast and 65535 ===== -/
theorem em_w (v : Int32) : ∃ w : Nat, w < 65536 ∧ (v.toUInt32 % 65536).toInt32 = nI w ∧ v &&& 65535 = nI w := by
  have hr := lw_u16_r v
  have h0 : (0 : Int32).toInt = 0 := by decide
  obtain ⟨w, h1, h2⟩ := nI_of (x := lw_u16 v) (by rw [Int32.lt_iff_toInt_lt]; omega)
  have h3 : (v.toUInt32 % 65536).toInt32 = nI w := h2
  rw [h2, nI_toInt h1] at hr
  exact ⟨w, by omega, h3, by rw [← lg_i2c_mask, ← lg_i2c_nf, h3]⟩
/-! ===== Int64 as a set of bits: test, set, clear ===== -/
theorem ts_nf {x : Bool} (h : ¬ x = false) : x = true := by cases x <;> first | rfl | exact absurd rfl h
theorem ts_nt {x : Bool} (h : ¬ x = true) : x = false := by cases x <;> first | rfl | exact absurd rfl h
theorem ts_bit {w : Int64} {s : UInt64} {j : Nat} (hj : j < 64) (hs : s.toNat = j) : ((w.toUInt64 >>> s).toInt64 &&& 1) = 0 ↔ w.toBitVec.getLsbD j = false := by
  have e : (w.toUInt64 >>> s).toInt64.toBitVec = w.toBitVec >>> j := by
    apply BitVec.eq_of_toNat_eq
    show (w.toUInt64 >>> s).toNat = _
    rw [UInt64.toNat_shiftRight, hs, Nat.mod_eq_of_lt hj, BitVec.toNat_ushiftRight]
    rfl
  rw [← Int64.toBitVec_inj, Int64.toBitVec_and, e]
  show w.toBitVec >>> j &&& 1#64 = 0#64 ↔ _
  constructor
  · intro h
    have t := congrArg (fun x => x.getLsbD 0) h
    simpa using t
  · intro h
    apply BitVec.eq_of_getLsbD_eq
    intro i hi
    cases i with
    | zero => simp [h]
    | succ i => simp
theorem ts_or {w m : Int64} {j : Nat} (hj : j < 64) (hm : m.toBitVec = BitVec.twoPow 64 j) : (w ||| m) = w ↔ w.toBitVec.getLsbD j = true := by
  rw [← Int64.toBitVec_inj, Int64.toBitVec_or, hm]
  constructor
  · intro h
    have t := congrArg (fun x => x.getLsbD j) h
    simp only [BitVec.getLsbD_or, BitVec.getLsbD_twoPow] at t
    simpa [hj] using t.symm
  · intro h
    apply BitVec.eq_of_getLsbD_eq
    intro i hi
    rw [BitVec.getLsbD_or, BitVec.getLsbD_twoPow]
    by_cases e : j = i
    · subst e; rw [h, Bool.true_or]
    · simp [e]
theorem ts_and {w m : Int64} {j : Nat} (hj : j < 64) (hm : m.toBitVec = BitVec.twoPow 64 j) : (w &&& (m ^^^ (-1))) = w ↔ w.toBitVec.getLsbD j = false := by
  have ha : (-1 : Int64).toBitVec = BitVec.allOnes 64 := by decide
  rw [← Int64.toBitVec_inj, Int64.toBitVec_and, Int64.toBitVec_xor, hm, ha]
  constructor
  · intro h
    have t := congrArg (fun x => x.getLsbD j) h
    simp only [BitVec.getLsbD_and, BitVec.getLsbD_xor, BitVec.getLsbD_twoPow, BitVec.getLsbD_allOnes] at t
    simpa [hj] using t.symm
  · intro h
    apply BitVec.eq_of_getLsbD_eq
    intro i hi
    rw [BitVec.getLsbD_and, BitVec.getLsbD_xor, BitVec.getLsbD_twoPow, BitVec.getLsbD_allOnes]
    by_cases e : j = i
    · subst e; rw [h, Bool.false_and]
    · simp [e, hi]
/-! ===== lN n to 2^64: shifts, and, or, masks, one bit ===== -/
theorem wb_tb (n : Nat) : (lN n).toBitVec = BitVec.ofNat 64 n := rfl
theorem wb_inj {a b : Int64} (h : a.toBitVec = b.toBitVec) : a = b := Int64.toBitVec_inj.mp h
theorem wb_tn {n : Nat} (h : n < 2 ^ 64) : (lN n).toBitVec.toNat = n := by rw [wb_tb, BitVec.toNat_ofNat, Nat.mod_eq_of_lt h]
theorem wb_of (x : Int64) : ∃ n, n < 2 ^ 64 ∧ x = lN n := ⟨x.toBitVec.toNat, x.toBitVec.isLt, wb_inj (by rw [wb_tb]; simp)⟩
theorem wb_of32 (x : Int32) : ∃ n, n < 2 ^ 32 ∧ x = nI n := ⟨x.toBitVec.toNat, x.toBitVec.isLt, Int32.toBitVec_inj.mp (by show _ = BitVec.ofNat 32 _; simp)⟩
theorem wb_c : ∀ k, k < 64 → ((nI k).toInt64 &&& 63) = lN k := by decide +kernel
theorem wb_cu : ∀ k, k < 64 → ((nI k).toInt64.toUInt64 &&& Int64.toUInt64 63) = UInt64.ofNat k := by decide +kernel
theorem wb_sm : ∀ k, k < 64 → (BitVec.ofNat 64 k).smod 64 = BitVec.ofNat 64 k := by decide +kernel
theorem wb_pw {a b : Nat} (h : a ≤ b) : 2 ^ b = 2 ^ a * 2 ^ (b - a) := by rw [← Nat.pow_add]; congr 1; omega
theorem wb_lt2 {a b : Nat} (h : a < b) : 2 ^ a < 2 ^ b := Nat.pow_lt_pow_right (by decide) h
theorem wb_mod (n : Nat) : lN n = lN (n % 2 ^ 64) := wb_inj (by rw [wb_tb, wb_tb]; apply BitVec.eq_of_toNat_eq; rw [BitVec.toNat_ofNat, BitVec.toNat_ofNat, Nat.mod_mod])
theorem wb_shr {n k : Nat} (hn : n < 2 ^ 64) (hk : k < 64) : ((lN n).toUInt64 >>> ((nI k).toInt64.toUInt64 &&& Int64.toUInt64 63)).toInt64 = lN (n / 2 ^ k) := by
  rw [wb_cu k hk]
  apply wb_inj
  apply BitVec.eq_of_toNat_eq
  show ((lN n).toUInt64 >>> UInt64.ofNat k).toNat = (BitVec.ofNat 64 _).toNat
  have h1 : (UInt64.ofNat k).toNat = k := by
    show (BitVec.ofNat 64 k).toNat = k
    rw [BitVec.toNat_ofNat, Nat.mod_eq_of_lt (by omega)]
  have h2 : (lN n).toUInt64.toNat = n := wb_tn hn
  rw [UInt64.toNat_shiftRight, h1, h2, Nat.mod_eq_of_lt hk, Nat.shiftRight_eq_div_pow, BitVec.toNat_ofNat, Nat.mod_eq_of_lt (Nat.lt_of_le_of_lt (Nat.div_le_self _ _) hn)]
theorem wb_shl (n : Nat) {k : Nat} (hk : k < 64) : lN n <<< ((nI k).toInt64 &&& 63) = lN (n * 2 ^ k) := by
  rw [wb_c k hk]
  apply wb_inj
  rw [Int64.toBitVec_shiftLeft, wb_tb, wb_tb, wb_tb, wb_sm k hk]
  apply BitVec.eq_of_toNat_eq
  rw [BitVec.shiftLeft_eq', BitVec.toNat_shiftLeft, BitVec.toNat_ofNat, BitVec.toNat_ofNat, BitVec.toNat_ofNat, Nat.mod_eq_of_lt (show k < 2 ^ 64 by omega), Nat.shiftLeft_eq, Nat.mul_mod, Nat.mod_mod, ← Nat.mul_mod]
theorem wb_and {a b : Nat} (ha : a < 2 ^ 64) (hb : b < 2 ^ 64) : lN a &&& lN b = lN (a &&& b) := by
  apply wb_inj
  rw [Int64.toBitVec_and, wb_tb, wb_tb, wb_tb]
  apply BitVec.eq_of_toNat_eq
  rw [BitVec.toNat_and, BitVec.toNat_ofNat, BitVec.toNat_ofNat, BitVec.toNat_ofNat, Nat.mod_eq_of_lt ha, Nat.mod_eq_of_lt hb, Nat.mod_eq_of_lt (Nat.and_lt_two_pow _ hb)]
theorem wb_or {a b : Nat} (ha : a < 2 ^ 64) (hb : b < 2 ^ 64) : lN a ||| lN b = lN (a ||| b) := by
  apply wb_inj
  rw [Int64.toBitVec_or, wb_tb, wb_tb, wb_tb]
  apply BitVec.eq_of_toNat_eq
  rw [BitVec.toNat_or, BitVec.toNat_ofNat, BitVec.toNat_ofNat, BitVec.toNat_ofNat, Nat.mod_eq_of_lt ha, Nat.mod_eq_of_lt hb, Nat.mod_eq_of_lt (Nat.or_lt_two_pow ha hb)]
theorem wb_mask {n k : Nat} (hn : n < 2 ^ 64) (hk : k < 64) : lN n &&& lN (2 ^ k - 1) = lN (n % 2 ^ k) := by
  rw [wb_and hn (by have := wb_lt2 hk; omega), Nat.and_two_pow_sub_one_eq_mod]
theorem wb_a1 {n : Nat} (hn : n < 2 ^ 64) : lN n &&& 1 = lN (n % 2) := wb_mask (k := 1) hn (by decide)
theorem wb_bit {n k : Nat} (hn : n < 2 ^ 64) (hk : k < 64) : ((lN n).toUInt64 >>> ((nI k).toInt64.toUInt64 &&& Int64.toUInt64 63)).toInt64 &&& 1 = lN (n / 2 ^ k % 2) := by
  rw [wb_shr hn hk, wb_a1 (Nat.lt_of_le_of_lt (Nat.div_le_self _ _) hn)]
theorem wb_xor {q k : Nat} (hk : k < 63) (h : 2 ^ k ≤ q) (h2 : q < 2 ^ (k + 1)) : lN q ^^^ lN (2 ^ k) = lN (q - 2 ^ k) := by
  obtain ⟨r, rfl⟩ : ∃ r, q = 2 ^ k + r := ⟨q - 2 ^ k, by omega⟩
  have hr : r < 2 ^ k := by rw [Nat.pow_succ] at h2; omega
  have hx : (2 ^ k + r) ^^^ 2 ^ k = r := by
    apply Nat.eq_of_testBit_eq
    intro i
    rw [Nat.testBit_xor, Nat.testBit_two_pow]
    rcases Nat.lt_trichotomy i k with h | h | h
    · rw [Nat.testBit_two_pow_add_gt h]
      simp [show ¬ k = i by omega]
    · subst h
      rw [Nat.testBit_two_pow_add_eq]
      simp
    · have a1 : 2 ^ (k + 1) ≤ 2 ^ i := Nat.pow_le_pow_right (by decide) h
      rw [Nat.testBit_lt_two_pow (show 2 ^ k + r < 2 ^ i by omega), Nat.testBit_lt_two_pow (show r < 2 ^ i by omega)]
      simp [show ¬ k = i by omega]
  have b1 := wb_lt2 (show k + 1 < 64 by omega)
  have b2 := wb_lt2 (show k < 64 by omega)
  apply wb_inj
  rw [Int64.toBitVec_xor, wb_tb, wb_tb, wb_tb]
  apply BitVec.eq_of_toNat_eq
  rw [BitVec.toNat_xor, BitVec.toNat_ofNat, BitVec.toNat_ofNat, BitVec.toNat_ofNat, Nat.mod_eq_of_lt (by omega : 2 ^ k + r < 2 ^ 64), Nat.mod_eq_of_lt b2, hx, Nat.add_sub_cancel_left, Nat.mod_eq_of_lt (by omega)]
/-! ===== lN: masks, 'or' of parts that don't overlap is a sum ===== -/
theorem u_tn {n : Nat} (h : n < 2 ^ 64) : (UInt64.ofNat n).toNat = n := Nat.mod_eq_of_lt h
theorem g_and {a b c : Nat} (ha : a < 2 ^ 64) (hb : b < 2 ^ 64) (hc : a &&& b = c) : lN a &&& lN b = lN c := by
  subst hc
  have h : UInt64.ofNat a &&& UInt64.ofNat b = UInt64.ofNat (a &&& b) := UInt64.toNat_inj.mp (by rw [UInt64.toNat_and, u_tn ha, u_tn hb, u_tn (Nat.and_lt_two_pow a hb)])
  have h2 := congrArg UInt64.toInt64 h
  exact h2
theorem g_and1 {a : Nat} (ha : a < 2 ^ 64) : lN a &&& 1 = lN (a % 2) := g_and (b := 1) ha (by decide) (Nat.and_two_pow_sub_one_eq_mod a 1)
theorem g_mask {a s p : Nat} (hp : 2 ^ s = p) (hs : s < 64) (ha : a < 2 ^ 64) : lN a &&& lN (p - 1) = lN (a % p) := by
  subst hp
  have := Nat.pow_lt_pow_right (show 1 < 2 by decide) hs
  exact g_and ha (by omega) (Nat.and_two_pow_sub_one_eq_mod a s)
theorem g_or {k p a b : Nat} (hp : 2 ^ k = p) (ha : a < p) (h : b * p + a < 2 ^ 64) : lN (b * p) ||| lN a = lN (b * p + a) := by
  subst hp
  have h1 : b * 2 ^ k ||| a = b * 2 ^ k + a := by rw [← Nat.shiftLeft_eq, Nat.shiftLeft_add_eq_or_of_lt ha]
  have h3 : UInt64.ofNat (b * 2 ^ k) ||| UInt64.ofNat a = UInt64.ofNat (b * 2 ^ k + a) := UInt64.toNat_inj.mp (by rw [UInt64.toNat_or, u_tn (by omega), u_tn (by omega), u_tn h, h1])
  have h2 := congrArg UInt64.toInt64 h3
  exact h2
theorem g_or' {k p a b : Nat} (hp : 2 ^ k = p) (ha : a < p) (h : a + b * p < 2 ^ 64) : lN a ||| lN (b * p) = lN (a + b * p) := by
  rw [Int64.or_comm, g_or hp ha (by omega), Nat.add_comm]
theorem g_ushr {a k p : Nat} {y : UInt64} (hy : y = UInt64.ofNat k) (hk : k < 64) (hp : 2 ^ k = p) (ha : a < 2 ^ 64) : ((lN a).toUInt64 >>> y).toInt64 = lN (a / p) := by
  subst hy hp
  have h : UInt64.ofNat a >>> UInt64.ofNat k = UInt64.ofNat (a / 2 ^ k) := UInt64.toNat_inj.mp (by rw [UInt64.toNat_shiftRight, u_tn ha, u_tn (by omega), u_tn (Nat.lt_of_le_of_lt (Nat.div_le_self _ _) ha), Nat.mod_eq_of_lt hk, Nat.shiftRight_eq_div_pow])
  have h2 := congrArg UInt64.toInt64 h
  exact h2
theorem g_shl {a k p : Nat} {y : Int64} (hy : y.toBitVec.smod 64 = BitVec.ofNat 64 k) (hk : k < 64) (hp : 2 ^ k = p) (ha : a < 2 ^ 64) : lN a <<< y = lN (a * p) := by
  subst hp
  apply Int64.toBitVec_inj.mp
  rw [Int64.toBitVec_shiftLeft, hy]
  apply BitVec.eq_of_toNat_eq
  have hb : (lN a).toBitVec.toNat = a := Nat.mod_eq_of_lt ha
  have hk' : (BitVec.ofNat 64 k).toNat = k := Nat.mod_eq_of_lt (by omega)
  have h : ((lN a).toBitVec <<< BitVec.ofNat 64 k).toNat = (a * 2 ^ k) % 2 ^ 64 := by simp only [BitVec.shiftLeft_eq', BitVec.toNat_shiftLeft, hb, hk', Nat.shiftLeft_eq]
  exact h
/-! ===== lN to 2^62 under >> and >>> ===== -/
theorem pf_lI {a : Nat} (h : a < 2 ^ 63) : (lN a).toInt = (a : Int) := lg_ofNat_toInt h
theorem pf_shr {a d : Nat} {D : Int64} (hD : (D.toBitVec.smod 64).toNat = d) (h : a < 2 ^ 62) : lN a >>> D = lN (a / 2 ^ d) := by
  have hd : a / 2 ^ d ≤ a := Nat.div_le_self _ _
  apply Int64.toInt_inj.mp
  have e : (lN a >>> D).toInt = (lN a).toInt >>> d := by
    rw [← hD]
    exact BitVec.toInt_sshiftRight ..
  rw [e, Int.shiftRight_eq_div_pow, pf_lI (by omega), pf_lI (by omega)]
  rfl
theorem pf_ushr {a d : Nat} {D : UInt64} (hD : D.toNat % 64 = d) (h : a < 2 ^ 62) : ((lN a).toUInt64 >>> D).toInt64 = lN (a / 2 ^ d) := by
  have hd : a / 2 ^ d ≤ a := Nat.div_le_self _ _
  have e : (lN a).toUInt64 >>> D = UInt64.ofNat (a / 2 ^ d) := UInt64.toNat_inj.mp (by
    rw [UInt64.toNat_shiftRight, hD, Nat.shiftRight_eq_div_pow, UInt64.toNat_ofNat']
    show (UInt64.ofNat a).toNat / 2 ^ d = _
    rw [UInt64.toNat_ofNat', Nat.mod_eq_of_lt (by omega), Nat.mod_eq_of_lt (by omega)])
  rw [e]
  rfl
theorem pf_andw (x : Int64) : ∃ m, m < 2 ^ 32 ∧ x &&& 4294967295 = lN m := ⟨x.toBitVec.toNat % 2 ^ 32, Nat.mod_lt _ (by decide), Int64.toBitVec_inj.mp (BitVec.eq_of_toNat_eq (by
  show (x.toBitVec &&& 4294967295#64).toNat = (BitVec.ofNat 64 (x.toBitVec.toNat % 2 ^ 32)).toNat
  rw [BitVec.toNat_and, show (4294967295#64).toNat = 2 ^ 32 - 1 from by decide, Nat.and_two_pow_sub_one_eq_mod, BitVec.toNat_ofNat]
  omega))⟩
/-! ===== Int64 as an unsigned number: uN x ===== -/
def uN (x : Int64) : Nat := x.toUInt64.toNat
theorem uN_lt (x : Int64) : uN x < 18446744073709551616 := x.toUInt64.toNat_lt
theorem uN_inj {x y : Int64} (h : uN x = uN y) : x = y := congrArg UInt64.toInt64 (UInt64.toNat_inj.mp h)
theorem uN_add (x y : Int64) : uN (x + y) = (uN x + uN y) % 18446744073709551616 := by
  show (x.toUInt64 + y.toUInt64).toNat = _
  exact UInt64.toNat_add _ _
theorem uN_mul (x y : Int64) : uN (x * y) = (uN x * uN y) % 18446744073709551616 := by
  show (x.toUInt64 * y.toUInt64).toNat = _
  exact UInt64.toNat_mul _ _
theorem uN_shl (x : Int64) : uN (x <<< ((1 : Int32).toInt64 &&& 63)) = (2 * uN x) % 18446744073709551616 := by
  have h : (((1 : Int32).toInt64 &&& 63).toBitVec.smod 64).toNat = 1 := by decide
  show (x.toBitVec <<< (((1 : Int32).toInt64 &&& 63).toBitVec.smod 64).toNat).toNat = _
  rw [h, BitVec.toNat_shiftLeft, Nat.shiftLeft_eq, Nat.mul_comm]
  rfl
theorem uN_shr (x : Int64) (s : UInt64) : uN (x.toUInt64 >>> s).toInt64 = uN x / 2 ^ (s.toNat % 64) := by
  show (x.toUInt64 >>> s).toNat = _
  rw [UInt64.toNat_shiftRight, Nat.shiftRight_eq_div_pow]
  rfl
theorem uN_s32 (x : Int64) : uN (x.toUInt64 >>> ((32 : Int32).toInt64.toUInt64 &&& Int64.toUInt64 63)).toInt64 = uN x / 4294967296 := by
  have h : ((32 : Int32).toInt64.toUInt64 &&& Int64.toUInt64 63).toNat % 64 = 32 := by decide
  rw [uN_shr, h]
theorem uN_s63 (x : Int64) : uN (x.toUInt64 >>> ((63 : Int32).toInt64.toUInt64 &&& Int64.toUInt64 63)).toInt64 = uN x / 9223372036854775808 := by
  have h : ((63 : Int32).toInt64.toUInt64 &&& Int64.toUInt64 63).toNat % 64 = 63 := by decide
  rw [uN_shr, h]
theorem uN_lo (x : Int64) : uN (x &&& 4294967295) = uN x % 4294967296 := by
  show (x.toUInt64 &&& Int64.toUInt64 4294967295).toNat = _
  rw [UInt64.toNat_and]
  exact Nat.and_two_pow_sub_one_eq_mod _ 32
theorem uN_bit (x : Int64) : (x &&& 1) = 0 ↔ uN x % 2 = 0 := by
  have h : uN (x &&& 1) = uN x % 2 := by
    show (x.toUInt64 &&& Int64.toUInt64 1).toNat = _
    rw [UInt64.toNat_and]
    exact Nat.and_two_pow_sub_one_eq_mod _ 1
  rw [← h]
  exact ⟨fun z => by rw [z]; rfl, fun z => uN_inj (z.trans rfl)⟩
theorem uN_or {x y : Int64} (hy : uN y < 2) : uN ((x <<< ((1 : Int32).toInt64 &&& 63)) ||| y) = (2 * uN x) % 18446744073709551616 + uN y := by
  have h1 : uN ((x <<< ((1 : Int32).toInt64 &&& 63)) ||| y) = uN (x <<< ((1 : Int32).toInt64 &&& 63)) ||| uN y := UInt64.toNat_or _ _
  have h2 : (2 * uN x) % 18446744073709551616 = 2 ^ 1 * (uN x % 9223372036854775808) := by omega
  rw [h1, uN_shl, h2]
  exact (Nat.two_pow_add_eq_or_of_lt (i := 1) hy _).symm
theorem nat_xor {a : Nat} (h : a < 18446744073709551616) : a ^^^ 2 ^ 63 = (a + 9223372036854775808) % 18446744073709551616 := by
  have h1 : (a ^^^ 2 ^ 63) % 2 ^ 63 = a % 2 ^ 63 := by rw [Nat.xor_mod_two_pow, Nat.mod_self, Nat.xor_zero]
  have h2 : (a ^^^ 2 ^ 63) / 2 ^ 63 = (a / 2 ^ 63) ^^^ 1 := by rw [Nat.xor_div_two_pow, Nat.div_self (Nat.two_pow_pos 63)]
  have h3 : a / 2 ^ 63 = 0 ∨ a / 2 ^ 63 = 1 := by omega
  generalize a ^^^ 2 ^ 63 = t at h1 h2
  rcases h3 with h3 | h3
  · rw [h3] at h2
    have h2 : t / 2 ^ 63 = 1 := h2
    omega
  · rw [h3] at h2
    have h2 : t / 2 ^ 63 = 0 := h2
    omega
theorem uN_xor (x : Int64) : uN (x ^^^ (-9223372036854775808)) = (uN x + 9223372036854775808) % 18446744073709551616 := by
  rw [← nat_xor (uN_lt x)]
  exact UInt64.toNat_xor _ _
theorem uN_int (x : Int64) : x.toInt = if 2 * uN x < 18446744073709551616 then (uN x : Int) else (uN x : Int) - 18446744073709551616 := BitVec.toInt_eq_toNat_cond _
theorem uN_le (x y : Int64) : (x ^^^ (-9223372036854775808)) ≤ (y ^^^ (-9223372036854775808)) ↔ uN x ≤ uN y := by
  have hx := uN_lt x
  have hy := uN_lt y
  rw [Int64.le_iff_toInt_le, uN_int, uN_int, uN_xor, uN_xor]
  omega
theorem uN_sk (x : Int64) {k : Nat} (hk : k < 64) : uN (x.toUInt64 >>> ((nI k).toInt64.toUInt64 &&& Int64.toUInt64 63)).toInt64 = uN x / 2 ^ k := by
  have h : ((nI k).toInt64.toUInt64 &&& Int64.toUInt64 63).toNat % 64 = k := by
    rw [nI_l (by omega), UInt64.toNat_and]
    have e : (lN k).toUInt64.toNat = k % 2 ^ 64 := rfl
    have e2 : (Int64.toUInt64 63).toNat = 2 ^ 6 - 1 := by decide
    rw [e, e2, Nat.and_two_pow_sub_one_eq_mod]
    omega
  rw [uN_shr, h]
/-! ===== unsigned comparison by xor with the least ===== -/
theorem lN_bv (n : Nat) : (lN n).toBitVec = BitVec.ofNat 64 n := rfl
theorem lN_nat {n : Nat} (h : n < 2 ^ 64) : (lN n).toBitVec.toNat = n := by rw [lN_bv, BitVec.toNat_ofNat]; exact Nat.mod_eq_of_lt h
theorem lN_xor (a b : Nat) : lN a ^^^ lN b = lN (a ^^^ b) := by
  apply Int64.toBitVec_inj.mp; rw [Int64.toBitVec_xor, lN_bv, lN_bv, lN_bv]; apply BitVec.eq_of_getLsbD_eq; intro i hi; simp [BitVec.getLsbD_ofNat, Nat.testBit_xor, hi]
theorem lN_ti {m : Nat} (h : m < 2 ^ 64) : (lN m).toInt = if m < 2 ^ 63 then (m : Int) else (m : Int) - 2 ^ 64 := by
  have c := BitVec.toInt_eq_toNat_cond (lN m).toBitVec
  rw [lN_nat h] at c
  show (lN m).toBitVec.toInt = _
  rw [c]
  split <;> split <;> omega
theorem xor63 {x : Nat} (h : x < 2 ^ 63) : x ^^^ 2 ^ 63 = 2 ^ 63 + x := by
  apply Nat.eq_of_testBit_eq
  intro i
  rw [Nat.testBit_xor, Nat.testBit_two_pow]
  rcases Nat.lt_trichotomy i 63 with z | z | z
  · rw [Nat.testBit_two_pow_add_gt z, decide_eq_false (by omega)]; simp
  · subst z; rw [Nat.testBit_two_pow_add_eq]; simp
  · have hp : 2 ^ 64 ≤ 2 ^ i := Nat.pow_le_pow_right (by decide) z
    rw [Nat.testBit_lt_two_pow (show x < 2 ^ i by omega), Nat.testBit_lt_two_pow (show 2 ^ 63 + x < 2 ^ i by omega), decide_eq_false (by omega)]; rfl
theorem xorS {a : Nat} (h : a < 2 ^ 64) : (lN a ^^^ (-9223372036854775808)).toInt = (a : Int) - 2 ^ 63 := by
  rw [show (-9223372036854775808 : Int64) = lN (2 ^ 63) from by decide +kernel, lN_xor]
  rcases Nat.lt_or_ge a (2 ^ 63) with z | z
  · rw [xor63 z, lN_ti (by omega), if_neg (by omega)]; omega
  · obtain ⟨x, rfl⟩ : ∃ x, a = 2 ^ 63 + x := ⟨a - 2 ^ 63, by omega⟩
    rw [← xor63 (by omega), Nat.xor_assoc, Nat.xor_self, Nat.xor_zero, lN_ti (by omega), if_pos (by omega), xor63 (by omega)]; omega
theorem ultL {a b : Nat} (ha : a < 2 ^ 64) (hb : b < 2 ^ 64) : ((lN b ^^^ (-9223372036854775808)) ≤ (lN a ^^^ (-9223372036854775808))) ↔ b ≤ a := by
  rw [Int64.le_iff_toInt_le, xorS ha, xorS hb]; omega
/-! ===== Int64 masks of n low bits ===== -/
theorem cr_bits (W U M : BitVec 64) : ((W &&& U) &&& (U &&& (M ^^^ BitVec.allOnes 64))) = 0#64 ↔ (W &&& U) &&& M = W &&& U := by
  constructor
  · intro h
    apply BitVec.eq_of_getLsbD_eq
    intro i hi
    have e := congrArg (fun x => BitVec.getLsbD x i) h
    simp only [BitVec.getLsbD_and, BitVec.getLsbD_xor, BitVec.getLsbD_allOnes, BitVec.getLsbD_zero, hi, decide_true] at e ⊢
    revert e
    cases W.getLsbD i <;> cases U.getLsbD i <;> cases M.getLsbD i <;> decide
  · intro h
    apply BitVec.eq_of_getLsbD_eq
    intro i hi
    have e := congrArg (fun x => BitVec.getLsbD x i) h
    simp only [BitVec.getLsbD_and, BitVec.getLsbD_xor, BitVec.getLsbD_allOnes, BitVec.getLsbD_zero, hi, decide_true] at e ⊢
    revert e
    cases W.getLsbD i <;> cases U.getLsbD i <;> cases M.getLsbD i <;> decide
theorem cr_mask (w U m : Int64) (n : Nat) (hm : m.toBitVec.toNat = 2 ^ n - 1) : ((w &&& U) &&& (U &&& (m ^^^ (-1)))) = 0 ↔ (w &&& U).toBitVec.toNat < 2 ^ n := by
  have e0 : (-1 : Int64).toBitVec = BitVec.allOnes 64 := by decide
  have z0 : (0 : Int64).toBitVec = 0#64 := by decide
  rw [← Int64.toBitVec_inj, z0, Int64.toBitVec_and, Int64.toBitVec_and, Int64.toBitVec_and, Int64.toBitVec_xor, e0, cr_bits]
  generalize w.toBitVec &&& U.toBitVec = T
  rw [← BitVec.toNat_inj, BitVec.toNat_and, hm, Nat.and_two_pow_sub_one_eq_mod]
  constructor
  · intro h
    have t := Nat.mod_lt T.toNat (Nat.two_pow_pos n)
    rw [h] at t
    exact t
  · exact Nat.mod_eq_of_lt
theorem cr_shr (t : Int64) (x : UInt64) (n : Nat) (hx : x.toNat % 64 = n) : (t.toUInt64 >>> x).toInt64 = 0 ↔ t.toBitVec.toNat < 2 ^ n := by
  rw [← Int64.toBitVec_inj, ← BitVec.toNat_inj]
  show (t.toUInt64 >>> x).toNat = 0 ↔ t.toUInt64.toNat < 2 ^ n
  rw [UInt64.toNat_shiftRight, hx, Nat.shiftRight_eq_div_pow]
  constructor
  · intro h
    have d : t.toUInt64.toNat / 2 ^ n < 1 := by
      rw [h]
      decide
    have e := (Nat.div_lt_iff_lt_mul (Nat.two_pow_pos n)).mp d
    rw [Nat.one_mul] at e
    exact e
  · exact Nat.div_eq_of_lt
theorem cr_amt (s : Int64) : ∃ n, n < 64 ∧ s &&& 63 = lN n ∧ (s.toUInt64 &&& Int64.toUInt64 63).toNat % 64 = n := by
  have e : (s.toUInt64 &&& Int64.toUInt64 63).toNat = s.toUInt64.toNat % 2 ^ 6 := by
    rw [UInt64.toNat_and, show (Int64.toUInt64 63).toNat = 2 ^ 6 - 1 from by decide, Nat.and_two_pow_sub_one_eq_mod]
  refine ⟨s.toUInt64.toNat % 2 ^ 6, by omega, ?_, by omega⟩
  rw [← Int64.toBitVec_inj, ← BitVec.toNat_inj]
  show (s.toUInt64 &&& Int64.toUInt64 63).toNat = (BitVec.ofNat 64 (s.toUInt64.toNat % 2 ^ 6)).toNat
  rw [e, BitVec.toNat_ofNat]
  omega
end
section
/-! the field of eight, packed digits, sums: pure -/
def zf_pw (k : Nat) : Nat := (0o5763421 >>> (3 * (k % 7))) % 8
def zf_lg (k : Nat) : Nat := (0o54623100 >>> (3 * (k % 8))) % 8
def zf_gm (p q : Nat) : Nat := (0o3461257042351760637241501526734021475630571364207654321000000000 >>> (3 * (8 * (p % 8) + q % 8))) % 8
def zf_gd (p q : Nat) : Nat := (0o1253467751742366241637556731524475621433364571224327651100000000 >>> (3 * (8 * (p % 8) + q % 8))) % 8
theorem zf_pw_lt (k : Nat) : zf_pw k < 8 := Nat.mod_lt _ (by decide)
theorem zf_lg_lt (k : Nat) : zf_lg k < 8 := Nat.mod_lt _ (by decide)
theorem zf_gm_lt (p q : Nat) : zf_gm p q < 8 := Nat.mod_lt _ (by decide)
theorem zf_gd_lt (p q : Nat) : zf_gd p q < 8 := Nat.mod_lt _ (by decide)
theorem zf_gmX : ∀ p, p < 8 → ∀ q, q < 8 → p ≠ 0 → q ≠ 0 → zf_lg p + zf_lg q < 14 ∧ zf_gm p q = zf_pw (zf_lg p + zf_lg q) := by decide +kernel
theorem zf_gdX : ∀ p, p < 8 → ∀ q, q < 8 → p ≠ 0 → q ≠ 0 → zf_lg q ≤ zf_lg p + 7 ∧ zf_lg p + 7 - zf_lg q < 14 ∧ zf_gd p q = zf_pw (zf_lg p + 7 - zf_lg q) := by decide +kernel
theorem zf_gm0 : ∀ q, q < 8 → zf_gm 0 q = 0 ∧ zf_gm q 0 = 0 := by decide +kernel
theorem zf_gd0 : ∀ q, q < 8 → zf_gd 0 q = 0 := by decide +kernel
theorem zf_gd1 : ∀ p, p < 8 → ∀ q, q < 8 → p ≠ 0 → q ≠ 0 → zf_gd p q ≠ 0 := by decide +kernel
theorem zf_pw0 : ∀ k, k < 14 → zf_pw k ≠ 0 := by decide +kernel
theorem zf_pwS : ∀ k, k < 7 → zf_pw (k + 1) = if zf_pw k < 4 then 2 * zf_pw k else (2 * zf_pw k) ^^^ 11 := by decide +kernel
theorem zf_pw7 (k : Nat) : zf_pw (k + 7) = zf_pw k := by unfold zf_pw; rw [Nat.add_mod_right]
theorem zf_pwm (k : Nat) : zf_pw (k % 7) = zf_pw k := by unfold zf_pw; rw [Nat.mod_mod]
theorem zf_lgpw : ∀ k, k < 8 → k ≠ 0 → zf_lg k < 7 ∧ zf_pw (zf_lg k) = k := by decide +kernel
theorem zf_pwlg : ∀ k, k < 7 → zf_lg (zf_pw k) = k := by decide +kernel
theorem zf_x8 {a b : Nat} (ha : a < 8) (hb : b < 8) : a ^^^ b < 8 := Nat.xor_lt_two_pow (n := 3) ha hb
theorem zf_xm (a b : Nat) : (a ^^^ b) % 8 = (a % 8) ^^^ (b % 8) := Nat.xor_mod_two_pow (n := 3)
theorem zf_gmm (a c : Nat) : zf_gm a c = zf_gm (a % 8) (c % 8) := by unfold zf_gm; rw [Nat.mod_mod, Nat.mod_mod]
theorem zf_lin8 : ∀ a, a < 8 → ∀ b, b < 8 → ∀ c, c < 8 → zf_gm (a ^^^ b) c = zf_gm a c ^^^ zf_gm b c := by decide +kernel
theorem zf_lin (a b c : Nat) : zf_gm (a ^^^ b) c = zf_gm a c ^^^ zf_gm b c := by
  rw [zf_gmm (a ^^^ b) c, zf_gmm a c, zf_gmm b c, zf_xm]
  exact zf_lin8 _ (Nat.mod_lt _ (by decide)) _ (Nat.mod_lt _ (by decide)) _ (Nat.mod_lt _ (by decide))
theorem zf_pp8 : ∀ a, a < 8 → ∀ i, i < 7 → ∀ j, j < 7 → zf_gm (zf_gm a (zf_pw i)) (zf_pw j) = zf_gm a (zf_pw (i + j)) := by decide +kernel
theorem zf_g18 : ∀ a, a < 8 → zf_gm a (zf_pw 0) = a := by decide +kernel
/-! digits of three bits -/
def zd (P j : Nat) : Nat := (P >>> (3 * j)) % 8
theorem zd_lt (P j : Nat) : zd P j < 8 := Nat.mod_lt _ (by decide)
theorem zd_eq (P j : Nat) : zd P j = P / 8 ^ j % 8 := by
  unfold zd
  rw [Nat.shiftRight_eq_div_pow, Nat.pow_mul]
theorem zd_xor (A B j : Nat) : zd (A ^^^ B) j = zd A j ^^^ zd B j := by
  unfold zd
  rw [Nat.shiftRight_xor_distrib, zf_xm]
theorem zd_0 (j : Nat) : zd 0 j = 0 := by unfold zd; rw [Nat.zero_shiftRight]
def zd_pk (g : Nat → Nat) : Nat → Nat
  | 0 => 0
  | n + 1 => zd_pk g n + 8 ^ n * g n
theorem zd_pk_lt {g : Nat → Nat} : ∀ n, (∀ j, j < n → g j < 8) → zd_pk g n < 8 ^ n := by
  intro n
  induction n with
  | zero => intro _; exact Nat.one_pos
  | succ n ih =>
    intro h
    have h1 := ih (fun j hj => h j (by omega))
    have h2 : 8 ^ n * g n ≤ 8 ^ n * 7 := Nat.mul_le_mul_left _ (by have := h n (by omega); omega)
    show zd_pk g n + 8 ^ n * g n < 8 ^ n * 8
    omega
theorem zd_self : ∀ n A, zd_pk (zd A) n = A % 8 ^ n := by
  intro n A
  induction n with
  | zero => show 0 = A % 1; omega
  | succ n ih =>
    show zd_pk (zd A) n + 8 ^ n * zd A n = _
    rw [ih, zd_eq, Nat.mod_pow_succ]
theorem zd_ext {n A B : Nat} (ha : A < 8 ^ n) (hb : B < 8 ^ n) (h : ∀ j, j < n → zd A j = zd B j) : A = B := by
  have e : ∀ m, m ≤ n → zd_pk (zd A) m = zd_pk (zd B) m := by
    intro m
    induction m with
    | zero => intro _; rfl
    | succ m ih =>
      intro hm
      show zd_pk (zd A) m + 8 ^ m * zd A m = zd_pk (zd B) m + 8 ^ m * zd B m
      rw [ih (by omega), h m (by omega)]
  have e2 := e n (Nat.le_refl n)
  rw [zd_self, zd_self, Nat.mod_eq_of_lt ha, Nat.mod_eq_of_lt hb] at e2
  exact e2
theorem zd_lo {n c : Nat} (m : Nat) (hc : c < 8 ^ n) {j : Nat} (hj : j < n) : zd (c + 8 ^ n * m) j = zd c j := by
  rw [zd_eq, zd_eq]
  obtain ⟨d, rfl⟩ : ∃ d, n = j + 1 + d := ⟨n - (j + 1), by omega⟩
  rw [show 8 ^ (j + 1 + d) * m = 8 ^ j * (8 * (8 ^ d * m)) from by rw [Nat.pow_add, Nat.pow_succ]; simp only [Nat.mul_assoc], Nat.add_mul_div_left _ _ (Nat.pow_pos (by decide))]
  omega
theorem zd_hi {n c : Nat} (m : Nat) (hc : c < 8 ^ n) (j : Nat) : zd (c + 8 ^ n * m) (n + j) = zd m j := by
  rw [zd_eq, zd_eq, Nat.pow_add, ← Nat.div_div_eq_div_mul, Nat.add_mul_div_left _ _ (Nat.pow_pos (by decide)), Nat.div_eq_of_lt hc, Nat.zero_add]
theorem zd_pk_at {g : Nat → Nat} : ∀ n, (∀ j, j < n → g j < 8) → ∀ j, j < n → zd (zd_pk g n) j = g j := by
  intro n
  induction n with
  | zero => intro _ j hj; omega
  | succ n ih =>
    intro h j hj
    have hl := zd_pk_lt n (fun j hj => h j (by omega))
    show zd (zd_pk g n + 8 ^ n * g n) j = g j
    by_cases e : j < n
    · rw [zd_lo _ hl e]
      exact ih (fun j hj => h j (by omega)) j e
    · obtain rfl : j = n := by omega
      have := zd_hi (g j) hl 0
      rw [Nat.add_zero] at this
      rw [this, zd_eq, Nat.pow_zero, Nat.div_one, Nat.mod_eq_of_lt (h j (by omega))]
theorem zd_small {P : Nat} (h : P < 8) : zd P 0 = P := by rw [zd_eq, Nat.pow_zero, Nat.div_one, Nat.mod_eq_of_lt h]
/-! the sums of a word: upwards (the reference), by Horner (the class) -/
def zs_y (w : Nat → Nat) (k : Nat) : Nat → Nat
  | 0 => 0
  | i + 1 => zs_y w k i ^^^ zf_gm (w i) (zf_pw (k * i % 7))
def zs_g (w : Nat → Nat) (k : Nat) : Nat → Nat → Nat
  | 0, acc => acc
  | i + 1, acc => zs_g w k i (zf_gm acc (zf_pw k) ^^^ w i)
def zs (W k : Nat) : Nat := zs_y (zd W) k 7
def zs_P (W : Nat) : Nat := zd_pk (fun j => zs W (j + 1)) 4
theorem zs_y_lt (w : Nat → Nat) (k : Nat) : ∀ i, zs_y w k i < 8 := by
  intro i
  induction i with
  | zero => exact (by decide : 0 < 8)
  | succ i ih => exact zf_x8 ih (zf_gm_lt _ _)
theorem zs_lt (W k : Nat) : zs W k < 8 := zs_y_lt _ _ _
theorem zs_P_lt (W : Nat) : zs_P W < 8 ^ 4 := zd_pk_lt 4 (fun _ _ => zs_lt _ _)
theorem zs_P_at (W : Nat) {j : Nat} (hj : j < 4) : zd (zs_P W) j = zs W (j + 1) := zd_pk_at 4 (fun _ _ => zs_lt _ _) j hj
theorem zs_P_0 (W : Nat) : zs_P W = 0 ↔ ∀ j, j < 4 → zs W (j + 1) = 0 := by
  constructor
  · intro h j hj
    rw [← zs_P_at W hj, h, zd_0]
  · intro h
    refine zd_ext (n := 4) (zs_P_lt W) (by decide) (fun j hj => ?_)
    rw [zs_P_at W hj, h j hj, zd_0]
theorem zs_hy (w : Nat → Nat) (hw : ∀ j, w j < 8) : ∀ k, 1 ≤ k → k ≤ 4 → zs_g w k 7 0 = zs_y w k 7 := by
  intro k h1 h4
  have e2 : ∀ a, a < 8 → ∀ i, i < 7 → ∀ j, j < 7 → zf_gm (zf_gm a (zf_pw i)) (zf_pw j) = zf_gm a (zf_pw ((i + j) % 7)) := fun a ha i hi j hj => by rw [zf_pwm]; exact zf_pp8 a ha i hi j hj
  have z : ∀ c, c < 8 → zf_gm 0 c = 0 := fun c hc => (zf_gm0 c hc).1
  have t : ∀ i, zf_gm (w i) (zf_pw 0) = w i := fun i => zf_g18 _ (hw i)
  have q : ∀ i j m : Nat, j < 7 → m < 7 → zf_gm (zf_gm (w i) (zf_pw j)) (zf_pw m) = zf_gm (w i) (zf_pw ((j + m) % 7)) := fun i j m hj hm => e2 _ (hw i) j hj m hm
  have hk : k = 1 ∨ k = 2 ∨ k = 3 ∨ k = 4 := by omega
  rcases hk with rfl | rfl | rfl | rfl
  all_goals
    simp only [zs_g, zs_y, zf_lin, z _ (zf_pw_lt _)]
    simp (disch := decide) only [q]
    simp only [t, Nat.reduceAdd, Nat.reduceMul, Nat.reduceMod, Nat.zero_xor]
    ac_rfl
theorem zs_lin (A B k : Nat) : zs (A ^^^ B) k = zs A k ^^^ zs B k := by
  have h : ∀ i, zs_y (zd (A ^^^ B)) k i = zs_y (zd A) k i ^^^ zs_y (zd B) k i := by
    intro i
    induction i with
    | zero => show 0 = 0 ^^^ 0; decide
    | succ i ih =>
      show zs_y (zd (A ^^^ B)) k i ^^^ zf_gm (zd (A ^^^ B) i) _ = (zs_y (zd A) k i ^^^ zf_gm (zd A i) _) ^^^ (zs_y (zd B) k i ^^^ zf_gm (zd B i) _)
      rw [ih, zd_xor, zf_lin]
      ac_rfl
  exact h 7
theorem zs_P_lin (A B : Nat) : zs_P (A ^^^ B) = zs_P A ^^^ zs_P B := by
  refine zd_ext (n := 4) (zs_P_lt _) (Nat.xor_lt_two_pow (n := 12) (zs_P_lt A) (zs_P_lt B)) (fun j hj => ?_)
  rw [zd_xor, zs_P_at _ hj, zs_P_at _ hj, zs_P_at _ hj, zs_lin]
theorem zx_eq0 {a b : Nat} : a ^^^ b = 0 ↔ a = b := by
  constructor
  · intro h
    have : a ^^^ b ^^^ b = 0 ^^^ b := by rw [h]
    rwa [Nat.xor_assoc, Nat.xor_self, Nat.xor_zero, Nat.zero_xor] at this
  · rintro rfl
    exact Nat.xor_self a
end
section
/-! the encoder and the decoder, pure; their laws by the kernel's reckoning -/
def zz_s {α : Type} (x : Nat) (k : Nat → α) : α := match x with
  | 0 => k 0
  | n + 1 => k (n + 1)
theorem zz_s_eq {α : Type} (x : Nat) (k : Nat → α) : zz_s x k = k x := by cases x <;> rfl
def zz_all (f : Nat → Bool) : Nat → Bool
  | 0 => true
  | n + 1 => cond (f n) (zz_all f n) false
theorem zz_all_at {f : Nat → Bool} : ∀ n, zz_all f n = true → ∀ i, i < n → f i = true := by
  intro n
  induction n with
  | zero => intro _ i hi; omega
  | succ n ih =>
    intro h i hi
    have h2 : cond (f n) (zz_all f n) false = true := h
    cases e : f n with
    | false => rw [e] at h2; exact absurd h2 Bool.false_ne_true
    | true =>
      rw [e] at h2
      by_cases q : i = n
      · rw [q]; exact e
      · exact ih h2 i (by omega)
/-- the generator: digits 3 2 1 3 1 -/
def zc_G : Nat := 0o13123
def zc_d (R b j : Nat) : Nat := if j = 0 then zf_gm b (zd zc_G 0) else zd R (j - 1) ^^^ zf_gm b (zd zc_G j)
def zc_st (R s : Nat) : Nat := zz_s (s ^^^ zd R 3) fun b => zd_pk (zc_d R b) 4
def zc_R (M : Nat) : Nat := zz_s (zc_st 0 (zd M 2)) fun a => zz_s (zc_st a (zd M 1)) fun b => zc_st b (zd M 0)
def zc_W (M : Nat) : Nat := zc_R M + 8 ^ 4 * M
theorem zc_d_lt (R b j : Nat) : zc_d R b j < 8 := by
  unfold zc_d
  split
  · exact zf_gm_lt _ _
  · exact zf_x8 (zd_lt _ _) (zf_gm_lt _ _)
theorem zc_st_eq (R s : Nat) : zc_st R s = zd_pk (zc_d R (s ^^^ zd R 3)) 4 := zz_s_eq _ _
theorem zc_st_lt (R s : Nat) : zc_st R s < 8 ^ 4 := by rw [zc_st_eq]; exact zd_pk_lt 4 (fun _ _ => zc_d_lt _ _ _)
theorem zc_R_eq (M : Nat) : zc_R M = zc_st (zc_st (zc_st 0 (zd M 2)) (zd M 1)) (zd M 0) := by unfold zc_R; rw [zz_s_eq, zz_s_eq]
theorem zc_R_lt (M : Nat) : zc_R M < 8 ^ 4 := by rw [zc_R_eq]; exact zc_st_lt _ _
theorem zc_law0 : zz_all (fun M => zz_s (zc_W M) fun W => Nat.beq (zs_P W) 0) 512 = true := by decide +kernel
theorem zc_inj0 : zz_all (fun c => cond (Nat.beq (zs_P c) 0) (Nat.beq c 0) true) 4096 = true := by decide +kernel
theorem zc_law {M : Nat} (h : M < 512) : zs_P (zc_W M) = 0 := by
  have := zz_all_at 512 zc_law0 M h
  rw [zz_s_eq] at this
  exact Nat.eq_of_beq_eq_true this
theorem zc_inj {c : Nat} (h : c < 4096) (e : zs_P c = 0) : c = 0 := by
  have := zz_all_at 4096 zc_inj0 c h
  rw [e] at this
  exact Nat.eq_of_beq_eq_true this
theorem zc_uni {c M : Nat} (hc : c < 4096) (hM : M < 512) (h : zs_P (c + 8 ^ 4 * M) = 0) : c = zc_R M := by
  have hR := zc_R_lt M
  have e : (c + 8 ^ 4 * M) ^^^ zc_W M = c ^^^ zc_R M := by
    have h7 : ∀ x, x < 8 ^ 4 → x + 8 ^ 4 * M < 8 ^ 7 := by intro x hx; simp only [Nat.reducePow] at *; omega
    have hx : c ^^^ zc_R M < 2 ^ 12 := Nat.xor_lt_two_pow hc hR
    refine zd_ext (n := 7) (Nat.xor_lt_two_pow (n := 21) (h7 _ hc) (h7 _ hR)) (by simp only [Nat.reducePow] at *; omega) (fun j hj => ?_)
    rw [zd_xor, zd_xor]
    by_cases hj4 : j < 4
    · rw [zd_lo M hc hj4]
      unfold zc_W
      rw [zd_lo M hR hj4]
    · obtain ⟨d, rfl⟩ : ∃ d, j = 4 + d := ⟨j - 4, by omega⟩
      unfold zc_W
      rw [zd_hi M hc, zd_hi M hR, Nat.xor_self]
      have z1 : zd c (4 + d) = 0 := by have := zd_hi (n := 4) 0 hc d; rw [Nat.mul_zero, Nat.add_zero, zd_0] at this; exact this
      have z2 : zd (zc_R M) (4 + d) = 0 := by have := zd_hi (n := 4) 0 hR d; rw [Nat.mul_zero, Nat.add_zero, zd_0] at this; exact this
      rw [z1, z2]
      rfl
  have z := zs_P_lin (c + 8 ^ 4 * M) (zc_W M)
  rw [h, zc_law hM, e] at z
  exact zx_eq0.mp (zc_inj (Nat.xor_lt_two_pow (n := 12) hc hR) z)
/-! the decoder: the recurrence, the evaluator, the corrections -/
def zb_f (S loc n : Nat) : Nat → Nat
  | 0 => zd S n
  | i + 1 => zb_f S loc n i ^^^ zf_gm (zd loc (i + 1)) (zd S (n - (i + 1)))
def zb_u (loc aw q old j : Nat) : Nat := if aw ≤ j then zd loc j ^^^ zf_gm q (zd old (j - aw)) else zd loc j
def zb_go (S : Nat) : Nat → Nat → Nat → Nat → Nat → Nat → Nat → Nat
  | 0, _, L, _, _, loc, _ => L * 32768 + loc
  | m + 1, n, L, aw, lf, loc, old => zz_s (zb_f S loc n L) fun f =>
    if f = 0 then zb_go S m (n + 1) L (aw + 1) lf loc old
    else zz_s (zd_pk (zb_u loc aw (zf_gd f lf) old) 5) fun loc' =>
      if 2 * L ≤ n then zb_go S m (n + 1) (n + 1 - L) 1 f loc' loc else zb_go S m (n + 1) L (aw + 1) lf loc' old
def zb_R (S : Nat) : Nat := zb_go S 4 0 0 1 1 1 1
def zb_e (S loc n : Nat) : Nat → Nat
  | 0 => 0
  | i + 1 => zb_e S loc n i ^^^ zf_gm (zd loc i) (zd S (n - i))
def zb_ev (S loc : Nat) : Nat := zd_pk (fun n => zb_e S loc n (n + 1)) 4
def zk_v (loc iv : Nat) : Nat → Nat
  | 0 => 0
  | d + 1 => zk_v loc iv d ^^^ zf_gm (zd loc d) (zf_pw (iv * d % 7))
def zk_s (loc iv : Nat) : Nat → Nat
  | 0 => 0
  | d + 1 => if d % 2 = 1 then zk_s loc iv d ^^^ zf_gm (zd loc d) (zf_pw (iv * (d - 1) % 7)) else zk_s loc iv d
def zk_a (ev iv : Nat) : Nat → Nat
  | 0 => 0
  | d + 1 => if d < 4 then zk_a ev iv d ^^^ zf_gm (zd ev d) (zf_pw (iv * d % 7)) else zk_a ev iv d
def zk_q (loc ev i : Nat) : Nat := if zk_v loc ((7 - i) % 7) 5 = 0 then zz_s (zk_s loc ((7 - i) % 7) 5) (fun s => if s = 0 then 0 else zf_gd (zk_a ev ((7 - i) % 7) 5) s) else 0
def zk_E (loc ev : Nat) : Nat := zd_pk (zk_q loc ev) 7
def zk_c (e : Nat → Nat) : Nat → Nat
  | 0 => 0
  | n + 1 => if e n = 0 then zk_c e n else zk_c e n + 1
def zm_E (S : Nat) : Nat := if S = 0 then 0 else zz_s (zb_R S % 32768) fun loc => zz_s (zb_ev S loc) fun ev => zk_E loc ev
def zm_L (S : Nat) : Nat := zb_R S / 32768
def zm_c (S : Nat) : Nat := zk_c (zd (zm_E S)) 7
def zm_ok (S : Nat) : Bool := decide (S = 0 ∨ (zm_L S ≤ 2 ∧ zm_c S = zm_L S ∧ zs_P (zm_E S) = S))
/-- a change of symbol i by x and of symbol k by y -/
def zp_d (i x k y j : Nat) : Nat := if j = i then x else if j = k then y else 0
def zp_E (i x k y : Nat) : Nat := zd_pk (zp_d i x k y) 7
def zp_chk (i x k y : Nat) : Bool := zz_s (zp_E i x k y) fun E => zz_s (zs_P E) fun S => zz_s (zk_c (zd E) 7) fun c =>
  cond (Nat.beq (zm_E S) E) (cond (Nat.beq (zm_L S) c) (Nat.beq c (if y = 0 then 1 else 2)) false) false
def zp_row (i : Nat) : Bool := zz_all (fun k => cond (Nat.ble k i) true (zz_all (fun x => cond (Nat.beq x 0) true (zz_all (fun y => zp_chk i x k y) 8)) 8)) 7
theorem zp_r0 : zp_row 0 = true := by decide +kernel
theorem zp_r1 : zp_row 1 = true := by decide +kernel
theorem zp_r2 : zp_row 2 = true := by decide +kernel
theorem zp_r3 : zp_row 3 = true := by decide +kernel
theorem zp_r4 : zp_row 4 = true := by decide +kernel
theorem zp_r5 : zp_row 5 = true := by decide +kernel
theorem zp_r6 : zz_all (fun x => cond (Nat.beq x 0) true (zp_chk 6 x 0 0)) 8 = true := by decide +kernel
end
section
/-! what the reckoned tables give: a change that explains the sums is the decoder's -/
theorem zp_row_at {i : Nat} (h : zp_row i = true) {k x y : Nat} (hk : k < 7) (hik : i < k) (hx : x < 8) (hx0 : x ≠ 0) (hy : y < 8) : zp_chk i x k y = true := by
  have h1 := zz_all_at 7 h k hk
  have e1 : Nat.ble k i = false := by
    cases e : Nat.ble k i with
    | false => rfl
    | true => have := Nat.le_of_ble_eq_true e; omega
  rw [e1, cond_false] at h1
  have h2 := zz_all_at 8 h1 x hx
  have e2 : Nat.beq x 0 = false := by
    cases e : Nat.beq x 0 with
    | false => rfl
    | true => exact absurd (Nat.eq_of_beq_eq_true e) hx0
  rw [e2, cond_false] at h2
  exact zz_all_at 8 h2 y hy
theorem zp_all {i k x y : Nat} (hk : k < 7) (hik : i < k) (hx : x < 8) (hx0 : x ≠ 0) (hy : y < 8) : zp_chk i x k y = true := by
  have hi : i = 0 ∨ i = 1 ∨ i = 2 ∨ i = 3 ∨ i = 4 ∨ i = 5 := by omega
  rcases hi with rfl | rfl | rfl | rfl | rfl | rfl
  · exact zp_row_at zp_r0 hk hik hx hx0 hy
  · exact zp_row_at zp_r1 hk hik hx hx0 hy
  · exact zp_row_at zp_r2 hk hik hx hx0 hy
  · exact zp_row_at zp_r3 hk hik hx hx0 hy
  · exact zp_row_at zp_r4 hk hik hx hx0 hy
  · exact zp_row_at zp_r5 hk hik hx hx0 hy
theorem zp_all6 {x : Nat} (hx : x < 8) (hx0 : x ≠ 0) : zp_chk 6 x 0 0 = true := by
  have h2 := zz_all_at 8 zp_r6 x hx
  have e2 : Nat.beq x 0 = false := by
    cases e : Nat.beq x 0 with
    | false => rfl
    | true => exact absurd (Nat.eq_of_beq_eq_true e) hx0
  rw [e2, cond_false] at h2
  exact h2
theorem zp_use {i x k y : Nat} (h : zp_chk i x k y = true) : zm_ok (zs_P (zp_E i x k y)) = true ∧ zm_E (zs_P (zp_E i x k y)) = zp_E i x k y ∧ zm_c (zs_P (zp_E i x k y)) = (if y = 0 then 1 else 2) := by
  unfold zp_chk at h
  simp only [zz_s_eq] at h
  generalize hE : zp_E i x k y = E at *
  generalize hS : zs_P E = S at *
  cases e1 : Nat.beq (zm_E S) E with
  | false => rw [e1] at h; exact absurd h Bool.false_ne_true
  | true =>
    rw [e1] at h
    cases e2 : Nat.beq (zm_L S) (zk_c (zd E) 7) with
    | false => rw [e2] at h; exact absurd h Bool.false_ne_true
    | true =>
      rw [e2] at h
      have a1 := Nat.eq_of_beq_eq_true e1
      have a2 := Nat.eq_of_beq_eq_true e2
      have a3 : zk_c (zd E) 7 = (if y = 0 then 1 else 2) := Nat.eq_of_beq_eq_true h
      have a4 : zm_c S = zk_c (zd E) 7 := by unfold zm_c; rw [a1]
      refine ⟨?_, a1, a4.trans a3⟩
      unfold zm_ok
      refine decide_eq_true (Or.inr ⟨?_, by rw [a4, a2], by rw [a1]; exact hS⟩)
      rw [a2, a3]
      split <;> omega
/-- few digits: counts -/
theorem zk_c0 {e : Nat → Nat} : ∀ n, zk_c e n = 0 → ∀ j, j < n → e j = 0 := by
  intro n
  induction n with
  | zero => intro _ j hj; omega
  | succ n ih =>
    intro h j hj
    have h2 : (if e n = 0 then zk_c e n else zk_c e n + 1) = 0 := h
    by_cases z : e n = 0
    · rw [if_pos z] at h2
      by_cases q : j = n
      · rw [q]; exact z
      · exact ih h2 j (by omega)
    · rw [if_neg z] at h2; omega
theorem zk_c1 {e : Nat → Nat} : ∀ n, zk_c e n = 1 → ∃ k, k < n ∧ e k ≠ 0 ∧ ∀ j, j < n → j ≠ k → e j = 0 := by
  intro n
  induction n with
  | zero => intro h; exact absurd (show (0 : Nat) = 1 from h) (by decide)
  | succ n ih =>
    intro h
    have h2 : (if e n = 0 then zk_c e n else zk_c e n + 1) = 1 := h
    by_cases z : e n = 0
    · rw [if_pos z] at h2
      obtain ⟨k, a, b, c⟩ := ih h2
      refine ⟨k, by omega, b, fun j hj q => ?_⟩
      by_cases w : j = n
      · rw [w]; exact z
      · exact c j (by omega) q
    · rw [if_neg z] at h2
      exact ⟨n, by omega, z, fun j hj q => zk_c0 n (by omega) j (by omega)⟩
theorem zk_c2 {e : Nat → Nat} : ∀ n, zk_c e n = 2 → ∃ i k, i < k ∧ k < n ∧ e i ≠ 0 ∧ e k ≠ 0 ∧ ∀ j, j < n → j ≠ i → j ≠ k → e j = 0 := by
  intro n
  induction n with
  | zero => intro h; exact absurd (show (0 : Nat) = 2 from h) (by decide)
  | succ n ih =>
    intro h
    have h2 : (if e n = 0 then zk_c e n else zk_c e n + 1) = 2 := h
    by_cases z : e n = 0
    · rw [if_pos z] at h2
      obtain ⟨i, k, a, b, c, d, f⟩ := ih h2
      refine ⟨i, k, a, by omega, c, d, fun j hj q r => ?_⟩
      by_cases w : j = n
      · rw [w]; exact z
      · exact f j (by omega) q r
    · rw [if_neg z] at h2
      obtain ⟨k, a, b, c⟩ := zk_c1 (e := e) n (by omega)
      exact ⟨k, n, a, by omega, b, z, fun j hj q r => c j (by omega) q⟩
theorem zk_q_lt (loc ev i : Nat) : zk_q loc ev i < 8 := by
  unfold zk_q
  split
  · rw [zz_s_eq]
    split
    · decide
    · exact zf_gd_lt _ _
  · decide
theorem zk_E_lt (loc ev : Nat) : zk_E loc ev < 8 ^ 7 := zd_pk_lt 7 (fun _ _ => zk_q_lt _ _ _)
theorem zk_E_at (loc ev : Nat) {j : Nat} (hj : j < 7) : zd (zk_E loc ev) j = zk_q loc ev j := zd_pk_at 7 (fun _ _ => zk_q_lt _ _ _) j hj
theorem zm_E_lt (S : Nat) : zm_E S < 8 ^ 7 := by
  unfold zm_E
  split
  · decide
  · rw [zz_s_eq, zz_s_eq]; exact zk_E_lt _ _
theorem zp_d_lt {i x k y : Nat} (hx : x < 8) (hy : y < 8) (j : Nat) : zp_d i x k y j < 8 := by
  unfold zp_d
  split
  · exact hx
  · split
    · exact hy
    · decide
theorem zp_E_lt {i x k y : Nat} (hx : x < 8) (hy : y < 8) : zp_E i x k y < 8 ^ 7 := zd_pk_lt 7 (fun j _ => zp_d_lt hx hy j)
theorem zp_E_at {i x k y : Nat} (hx : x < 8) (hy : y < 8) {j : Nat} (hj : j < 7) : zd (zp_E i x k y) j = zp_d i x k y j := zd_pk_at 7 (fun j _ => zp_d_lt hx hy j) j hj
/-- the decoder's success is a change that the reference tries -/
theorem zm_B {S : Nat} (h : zm_ok S = true) (h0 : S ≠ 0) : (∃ i x k y, i < k ∧ k < 7 ∧ x ≠ 0 ∧ x < 8 ∧ y < 8 ∧ zs_P (zp_E i x k y) = S) ∨ (∃ x, x ≠ 0 ∧ x < 8 ∧ zs_P (zp_E 6 x 0 0) = S) := by
  have h1 := of_decide_eq_true h
  rcases h1 with h1 | ⟨hL, hc, hs⟩
  · exact absurd h1 h0
  · generalize hE : zm_E S = E at hs
    have hc2 : zk_c (zd E) 7 ≤ 2 := by rw [← hE]; show zm_c S ≤ 2; omega
    have hl : E < 8 ^ 7 := by rw [← hE]; exact zm_E_lt S
    have h3 : zk_c (zd E) 7 = 0 ∨ zk_c (zd E) 7 = 1 ∨ zk_c (zd E) 7 = 2 := by omega
    rcases h3 with h3 | h3 | h3
    · have z := zk_c0 7 h3
      have e0 : E = 0 := zd_ext (n := 7) hl (by decide) (fun j hj => by rw [z j hj, zd_0])
      refine absurd ?_ h0
      rw [← hs, e0]
      decide +kernel
    · obtain ⟨k, hk, ne, z⟩ := zk_c1 7 h3
      by_cases k6 : k = 6
      · refine Or.inr ⟨zd E k, ne, zd_lt _ _, ?_⟩
        have e : E = zp_E 6 (zd E k) 0 0 := zd_ext (n := 7) hl (zp_E_lt (zd_lt _ _) (by decide)) (fun j hj => by
          rw [zp_E_at (zd_lt _ _) (by decide) hj]
          unfold zp_d
          by_cases q : j = 6
          · rw [if_pos q, q, k6]
          · rw [if_neg q, z j hj (by omega)]; split <;> rfl)
        rw [← e]; exact hs
      · refine Or.inl ⟨k, zd E k, 6, 0, by omega, by omega, ne, zd_lt _ _, by decide, ?_⟩
        have e : E = zp_E k (zd E k) 6 0 := zd_ext (n := 7) hl (zp_E_lt (zd_lt _ _) (by decide)) (fun j hj => by
          rw [zp_E_at (zd_lt _ _) (by decide) hj]
          unfold zp_d
          by_cases q : j = k
          · rw [if_pos q, q]
          · rw [if_neg q, z j hj q]; split <;> rfl)
        rw [← e]; exact hs
    · obtain ⟨i, k, hik, hk, ni, nk, z⟩ := zk_c2 7 h3
      refine Or.inl ⟨i, zd E i, k, zd E k, hik, hk, ni, zd_lt _ _, zd_lt _ _, ?_⟩
      have e : E = zp_E i (zd E i) k (zd E k) := zd_ext (n := 7) hl (zp_E_lt (zd_lt _ _) (zd_lt _ _)) (fun j hj => by
        rw [zp_E_at (zd_lt _ _) (zd_lt _ _) hj]
        unfold zp_d
        by_cases q : j = i
        · rw [if_pos q, q]
        · rw [if_neg q]
          by_cases r : j = k
          · rw [if_pos r, r]
          · rw [if_neg r]; exact z j hj q r)
      rw [← e]; exact hs
end
section
/-! numbers and arrays of the walks; product, quotient, the line's bits -/
def zf_T (pO lO : Nat → Int32) : Prop := (∀ k, k < 14 → pO k = nI (zf_pw k)) ∧ (∀ k, k < 8 → lO k = nI (zf_lg k))
def zd_F (a : Nat → Int32) (n : Nat) (g : Nat → Nat) : Prop := ∀ j, j < n → a j = nI (g j)
abbrev zd_A (a : Nat → Int32) (n P : Nat) : Prop := zd_F a n (zd P)
theorem zd_Fu {a : Nat → Int32} {n : Nat} {g : Nat → Nat} (h : zd_F a n g) (k v : Nat) : zd_F (upd a k (nI v)) n (fun j => if j = k then v else g j) := by
  intro j hj
  show (if j = k then nI v else a j) = nI (if j = k then v else g j)
  by_cases e : j = k
  · rw [if_pos e, if_pos e]
  · rw [if_neg e, if_neg e]; exact h j hj
theorem zd_FA {a : Nat → Int32} {n : Nat} {g : Nat → Nat} (h : zd_F a n g) (hg : ∀ j, j < n → g j < 8) : zd_A a n (zd_pk g n) := by
  intro j hj
  show a j = nI (zd (zd_pk g n) j)
  rw [h j hj, zd_pk_at n hg j hj]
theorem zd_Fc {a : Nat → Int32} {n : Nat} {g g' : Nat → Nat} (h : zd_F a n g) (e : ∀ j, j < n → g j = g' j) : zd_F a n g' := fun j hj => by rw [h j hj, e j hj]
theorem zn_b8 : ∀ v, v < 8 → (nI v).toInt8.toInt32 = nI v := by decide +kernel
theorem zn_b {v : Nat} (h : v < 8) : vp_nar .byte (nI v).toInt8.toInt32 = nI v := by rw [zn_b8 v h, vp_nar_byte, zn_b8 v h]
theorem zn_b' {v : Nat} (h : v < 8) : vp_nar .byte (nI v) = nI v := by rw [vp_nar_byte, zn_b8 v h]
theorem zn_B (v : Bool) : vp_nar .boolean (nI v.toNat) = nI v.toNat := by cases v <;> rfl
theorem zn_m0 : nI 0 + (-1) < 0 := by decide +kernel
theorem zn_60 {i : Nat} (h : i < 300) : nI i / 60 = nI (i / 60) := pk_div (d := 60) (by omega) (by decide) (by decide)
theorem zn_60r {i : Nat} (h : i < 300) : nI i - nI i / 60 * 60 = nI (i % 60) := pk_rem (d := 60) (by omega) (by decide) (by decide)
/-! the line -/
def zl_b (a : Nat → Int64) (i : Nat) : Bool := (a (i / 60)).toBitVec.getLsbD (i % 60)
def zl_X (ln : Nat → Int64) (b : Nat → Bool) : Prop := ∀ i, i < 300 → zl_b ln i = b i
def zl_Y (yl : Nat → Int32) (b : Nat → Bool) : Prop := ∀ i, i < 300 → yl i = nI (b i).toNat
def zl_u (b : Nat → Bool) (i : Nat) (v : Bool) : Nat → Bool := fun j => if j = i then v else b j
theorem zl_rd {a : Int64} {k : Nat} (hk : k < 64) : (((a.toUInt64 >>> ((nI k).toInt64.toUInt64 &&& Int64.toUInt64 63)).toInt64) &&& 1).toInt32 = nI (a.toBitVec.getLsbD k).toNat := by
  obtain ⟨n, hn, rfl⟩ := wb_of a
  rw [wb_bit hn hk, lN_i, wb_tb, BitVec.getLsbD_ofNat, decide_eq_true hk, Bool.true_and, Nat.testBit_eq_decide_div_mod_eq]
  rcases Nat.mod_two_eq_zero_or_one (n / 2 ^ k) with h | h <;> rw [h] <;> rfl
theorem zl_tp {k : Nat} (hk : k < 64) : (lN (2 ^ k)).toBitVec = BitVec.twoPow 64 k := by
  rw [wb_tb]
  apply BitVec.eq_of_toNat_eq
  rw [BitVec.toNat_ofNat, BitVec.toNat_twoPow]
theorem zl_s1 {ln : Nat → Int64} {b : Nat → Bool} {i : Nat} (hl : zl_X ln b) : zl_X (vp_updL ln (i / 60) (ln (i / 60) ||| lN (2 ^ (i % 60)))) (zl_u b i true) := by
  intro j hj
  show ((if j / 60 = i / 60 then ln (i / 60) ||| lN (2 ^ (i % 60)) else ln (j / 60)) : Int64).toBitVec.getLsbD (j % 60) = if j = i then true else b j
  have h0 := hl j hj
  unfold zl_b at h0
  by_cases q : j / 60 = i / 60
  · rw [if_pos q, Int64.toBitVec_or, BitVec.getLsbD_or, zl_tp (by omega), BitVec.getLsbD_twoPow, ← q, h0, decide_eq_true (by omega : i % 60 < 64), Bool.true_and]
    by_cases r : j = i
    · rw [if_pos r, r, decide_eq_true rfl, Bool.or_true]
    · rw [if_neg r, decide_eq_false (by omega), Bool.or_false]
  · rw [if_neg q, h0, if_neg (by intro r; exact q (by rw [r]))]
theorem zl_s0 {ln : Nat → Int64} {b : Nat → Bool} {i : Nat} (hl : zl_X ln b) : zl_X (vp_updL ln (i / 60) (ln (i / 60) &&& (lN (2 ^ (i % 60)) ^^^ (-1)))) (zl_u b i false) := by
  intro j hj
  show ((if j / 60 = i / 60 then ln (i / 60) &&& (lN (2 ^ (i % 60)) ^^^ (-1)) else ln (j / 60)) : Int64).toBitVec.getLsbD (j % 60) = if j = i then false else b j
  have h0 := hl j hj
  unfold zl_b at h0
  have ha : (-1 : Int64).toBitVec = BitVec.allOnes 64 := by decide
  by_cases q : j / 60 = i / 60
  · rw [if_pos q, Int64.toBitVec_and, Int64.toBitVec_xor, ha, BitVec.getLsbD_and, BitVec.getLsbD_xor, zl_tp (by omega), BitVec.getLsbD_twoPow, BitVec.getLsbD_allOnes, ← q, h0, decide_eq_true (by omega : i % 60 < 64), Bool.true_and, decide_eq_true (by omega : j % 60 < 64)]
    by_cases r : j = i
    · rw [if_pos r, r, decide_eq_true rfl, Bool.xor_true, Bool.not_true, Bool.and_false]
    · rw [if_neg r, decide_eq_false (by omega), Bool.false_xor, Bool.and_true]
  · rw [if_neg q, h0, if_neg (by intro r; exact q (by rw [r]))]
theorem zl_yu {yl : Nat → Int32} {b : Nat → Bool} (hl : zl_Y yl b) (i : Nat) (v : Bool) : zl_Y (upd yl i (nI v.toNat)) (zl_u b i v) := by
  intro j hj
  show (if j = i then nI v.toNat else yl j) = nI (if j = i then v else b j).toNat
  by_cases e : j = i
  · rw [if_pos e, if_pos e]
  · rw [if_neg e, if_neg e]; exact hl j hj
section
variable {bc rc fc mc : Int32} {pO lO gn : Nat → Int32} {ln : Nat → Int64} {fA wd sm lc od sh ev : Nat → Int32}
theorem zx_prod {post : Int32 → Prop} {x y : Int32} (p q : Nat) (hT : zf_T pO lO) (hp : p < 8) (hq : q < 8) (hx : x = nI p) (hy : y = nI q) (h : post (nI (zf_gm p q))) : wpX_product post (bc, rc, fc, mc, pO, lO, gn, ln, fA, wd, sm, lc, od, sh, ev) x y := by
  subst hx hy
  by_cases p0 : p = 0
  · subst p0
    rw [(zf_gm0 q hq).1] at h
    exact br_t nI_0 h
  · by_cases q0 : q = 0
    · subst q0
      rw [(zf_gm0 p hp).2] at h
      exact br_f (nI_ne0 (by omega) (by omega)) (br_t nI_0 h)
    · obtain ⟨e1, e2⟩ := zf_gmX p hp q hq p0 q0
      refine br_f (nI_ne0 (by omega) (by omega)) (br_f (nI_ne0 (by omega) (by omega)) ⟨vp_in_nI hp (by decide), vp_in_nI hq (by decide), ?_⟩)
      rw [nI_clamp (n := p) (by omega), nI_clamp (n := q) (by omega), hT.2 p hp, hT.2 q hq, nI_add, nI_clamp (by omega), hT.1 _ e1, ← e2]
      exact ⟨vp_in_nI e1 (by decide), h⟩
theorem zx_quot {post : Int32 → Prop} {x y : Int32} (p q : Nat) (hT : zf_T pO lO) (hp : p < 8) (hq : q < 8) (q0 : q ≠ 0) (hx : x = nI p) (hy : y = nI q) (h : post (nI (zf_gd p q))) : wpX_quotient post (bc, rc, fc, mc, pO, lO, gn, ln, fA, wd, sm, lc, od, sh, ev) x y := by
  subst hx hy
  by_cases p0 : p = 0
  · subst p0
    rw [zf_gd0 q hq] at h
    exact br_t nI_0 h
  · obtain ⟨e0, e1, e2⟩ := zf_gdX p hp q hq p0 q0
    refine br_f (nI_ne0 (by omega) (by omega)) ⟨vp_in_nI hp (by decide), vp_in_nI hq (by decide), ?_⟩
    rw [nI_clamp (n := p) (by omega), nI_clamp (n := q) (by omega), hT.2 p hp, hT.2 q hq, show nI (zf_lg p) + 7 = nI (zf_lg p + 7) from nI_add _ 7, pk_sub e0, nI_clamp (by omega), hT.1 _ e1, ← e2]
    exact ⟨vp_in_nI e1 (by decide), h⟩
theorem zx_bitAt {post : Int32 → Prop} {x : Int32} {b : Nat → Bool} (i : Nat) (hl : zl_X ln b) (hi : i < 300) (hx : x = nI i) (h : post (nI (b i).toNat)) : wpX_bitAt post (bc, rc, fc, mc, pO, lO, gn, ln, fA, wd, sm, lc, od, sh, ev) x := by
  subst hx
  refine ⟨by decide, ?_⟩
  rw [zn_60r hi, zn_60 hi, nI_clamp (by omega), zl_rd (by omega)]
  rw [← hl i hi] at h
  exact ⟨vp_in_nI (by omega) (by decide), by decide, h⟩
theorem zx_set {post : SX → Prop} {x y : Int32} {b : Nat → Bool} (i : Nat) (v : Bool) (hl : zl_X ln b) (hi : i < 300) (hx : x = nI i) (hy : y = nI v.toNat) (h : ∀ ln', zl_X ln' (zl_u b i v) → post (bc, rc, fc, mc, pO, lO, gn, ln', fA, wd, sm, lc, od, sh, ev)) : wpX_setBit post (bc, rc, fc, mc, pO, lO, gn, ln, fA, wd, sm, lc, od, sh, ev) x y := by
  subst hx hy
  have e4 : (1 : Int64) <<< ((nI (i % 60)).toInt64 &&& 63) = lN (2 ^ (i % 60)) := by
    have := wb_shl 1 (k := i % 60) (by omega)
    rw [Nat.one_mul] at this
    exact this
  refine ⟨by decide, ?_⟩
  rw [zn_60r hi, zn_60 hi, nI_clamp (by omega), e4]
  have hv : vp_in (nI (i / 60)) 5 := vp_in_nI (by omega) (by decide)
  cases v with
  | true => exact nm_e (br_t rfl ⟨by decide, hv, hv, nm_e (h _ (zl_s1 hl))⟩)
  | false => exact nm_e (br_f (by decide) ⟨by decide, hv, hv, nm_e (h _ (zl_s0 hl))⟩)
theorem zx_isBit {post : Int32 → Prop} {x : Int32} {n i : Nat} (hn : n ≤ 300) (hi : i < n) (hb : bc = nI n) (hx : x = nI i) (h : post 1) : wpX_isBit post (bc, rc, fc, mc, pO, lO, gn, ln, fA, wd, sm, lc, od, sh, ev) x := by
  subst hx hb
  exact br_f (nI_pos (by omega)) (br_f (nI_ge hi (by omega)) h)
theorem zx_noBit {post : Int32 → Prop} {x : Int32} (hx : x < 0 ∨ bc ≤ x) (h : post 0) : wpX_isBit post (bc, rc, fc, mc, pO, lO, gn, ln, fA, wd, sm, lc, od, sh, ev) x := by
  by_cases q : x < 0
  · exact br_t q h
  · exact br_f q (br_t (hx.resolve_left q) h)
end
section
variable {yn yc yf : Int32} {yl yw yp ys : Nat → Int32}
theorem zy_isBit {post : Int32 → Prop} {x : Int32} {n i : Nat} (hn : n ≤ 300) (hi : i < n) (hb : yn = nI n) (hx : x = nI i) (h : post 1) : wpY_isBit post (yn, yc, yf, yl, yw, yp, ys) x := by
  subst hx hb
  exact br_f (nI_pos (by omega)) (br_f (nI_ge hi (by omega)) h)
theorem zy_noBit {post : Int32 → Prop} {x : Int32} (hx : x < 0 ∨ yn ≤ x) (h : post 0) : wpY_isBit post (yn, yc, yf, yl, yw, yp, ys) x := by
  by_cases q : x < 0
  · exact br_t q h
  · exact br_f q (br_t (hx.resolve_left q) h)
end
end
section
/-! the reference's product and isCode, the class's sums -/
def zq_a (p q v k : Int32) : Int32 := if ((q >>> (k &&& 31)) &&& 1) = 1 then v ^^^ (p <<< (k &&& 31)) else v
def zq_r (v d : Int32) : Int32 := if (v >>> ((d + 3) &&& 31)) = 1 then v ^^^ ((11 : Int32) <<< (d &&& 31)) else v
def zq_m (p q : Int32) : Int32 := zq_r (zq_r (zq_r (zq_a p q (zq_a p q (zq_a p q 0 0) 1) 2) 2) 1) 0 &&& 7
theorem zq_m8 : ∀ p, p < 8 → ∀ q, q < 8 → zq_m (nI p) (nI q) = nI (zf_gm p q) := by decide +kernel
section
variable {yn yc yf : Int32} {yl yw yp ys : Nat → Int32}
theorem zy_p37 {post : Int32 → Prop} {v d : Int32} {n : Nat} (d' : Int32) (hd : ¬ d < 0) (e : d + (-1) = d') (h : wY_product_37 post yn yc yf yl yw yp ys n (zq_r v d) d') : wY_product_37 post yn yc yf yl yw yp ys (n + 1) v d := by
  unfold zq_r at h
  subst e
  refine br_f hd ?_
  by_cases q : (v >>> ((d + 3) &&& 31)) = 1
  · rw [if_pos q] at h; exact br_t q (nm_e (nm_e h))
  · rw [if_neg q] at h; exact br_f q (nm_e h)
theorem zy_p5 {post : Int32 → Prop} {p q v k : Int32} {n : Nat} (k' : Int32) (hk : ¬ 3 ≤ k) (e : k + 1 = k') (h : wY_product_5 post p q yn yc yf yl yw yp ys n (zq_a p q v k) k') : wY_product_5 post p q yn yc yf yl yw yp ys (n + 1) v k := by
  unfold zq_a at h
  subst e
  refine br_f hk ?_
  by_cases z : ((q >>> (k &&& 31)) &&& 1) = 1
  · rw [if_pos z] at h; exact br_t z (nm_e (nm_e h))
  · rw [if_neg z] at h; exact br_f z (nm_e h)
theorem zy_prod {post : Int32 → Prop} {x y : Int32} (p q : Nat) (hp : p < 8) (hq : q < 8) (hx : x = nI p) (hy : y = nI q) (h : post (nI (zf_gm p q))) : wpY_product post (yn, yc, yf, yl, yw, yp, ys) x y := by
  subst hx hy
  rw [← zq_m8 p hp q hq] at h
  exact ⟨4, zy_p5 1 (by decide) (by decide) (zy_p5 2 (by decide) (by decide) (zy_p5 3 (by decide) (by decide) (br_t (by decide) ⟨4, zy_p37 1 (by decide) (by decide) (zy_p37 0 (by decide) (by decide) (zy_p37 (-1) (by decide) (by decide) (br_t (by decide) h)))⟩)))⟩
theorem zy_c11 {post : Int32 → Prop} {J2 : Int32 → Prop} {k W : Nat} (hk : k ≤ 4) (hp : ∀ j, j < 7 → yp j = nI (zf_pw j)) (hw : zd_A yw 7 W) (h0 : zs W k = 0 → J2 (nI (k + 1))) (h1 : zs W k ≠ 0 → post 0) :
    ∀ m i n, i + m = 7 → m < n → wY_isCode_11 post J2 (nI k) yn yc yf yl yw yp ys n (nI (zs_y (zd W) k i)) (nI i) := by
  intro m
  induction m with
  | zero =>
    intro i n hi hn
    obtain ⟨n, rfl⟩ : ∃ n', n = n' + 1 := ⟨n - 1, by omega⟩
    obtain rfl : i = 7 := by omega
    refine br_t (nI_le (a := 7) (by omega) (by omega)) ?_
    by_cases z : zs W k = 0
    · exact br_t (by rw [show zs_y (zd W) k 7 = 0 from z]; exact nI_0) (nm_r (nI_1 k) (h0 z))
    · exact br_f (nI_ne0 (Nat.pos_of_ne_zero z) (by have := zs_lt W k; unfold zs at this; omega)) (h1 z)
  | succ m ih =>
    intro i n hi hn
    obtain ⟨n, rfl⟩ : ∃ n', n = n' + 1 := ⟨n - 1, by omega⟩
    have hi7 : i < 7 := by omega
    have hki : k * i ≤ 4 * i := Nat.mul_le_mul_right _ hk
    have hm : k * i % 7 < 7 := Nat.mod_lt _ (by decide)
    have e : nI k * nI i - nI k * nI i / 7 * 7 = nI (k * i % 7) := by
      rw [pk_mul]
      exact pk_rem (d := 7) (by omega) (by decide) (by decide)
    refine br_f (nI_ge (b := 7) hi7 (by omega)) ⟨vp_in_nI hi7 (by decide), by decide, ?_⟩
    rw [e, nI_clamp (n := i) (by omega), nI_clamp (n := k * i % 7) (by omega), hw i hi7, hp _ hm]
    refine ⟨vp_in_nI hm (by decide), zy_prod _ _ (zd_lt _ _) (zf_pw_lt _) rfl rfl ?_⟩
    exact nm_r (nx_xor _ _) (nm_r (nI_1 i) (ih (i + 1) n (by omega) (by omega)))
theorem zy_c2 {post : Int32 → Prop} {W : Nat} (hp : ∀ j, j < 7 → yp j = nI (zf_pw j)) (hw : zd_A yw 7 W) (h : post (if zs_P W = 0 then 1 else 0)) :
    ∀ m k n, k + m = 4 → m < n → (∀ j, j < k → zs W (j + 1) = 0) → wY_isCode_2 post yn yc yf yl yw yp ys n (nI (k + 1)) := by
  intro m
  induction m with
  | zero =>
    intro k n hk hn hz
    obtain ⟨n, rfl⟩ : ∃ n', n = n' + 1 := ⟨n - 1, by omega⟩
    obtain rfl : k = 4 := by omega
    rw [if_pos ((zs_P_0 W).mpr hz)] at h
    exact br_t (nI_lt (a := 4) (by omega) (by omega)) h
  | succ m ih =>
    intro k n hk hn hz
    obtain ⟨n, rfl⟩ : ∃ n', n = n' + 1 := ⟨n - 1, by omega⟩
    refine br_f (nI_nlt (a := 4) (by omega) (by omega)) ⟨8, ?_⟩
    refine zy_c11 (W := W) (k := k + 1) (by omega) hp hw (fun z => ?_) (fun z => ?_) 7 0 8 rfl (by omega)
    · refine ih (k + 1) n (by omega) (by omega) (fun j hj => ?_)
      by_cases q : j = k
      · rw [q]; exact z
      · exact hz j (by omega)
    · rw [if_neg (fun q => z ((zs_P_0 W).mp q k (by omega)))] at h
      exact h
theorem zy_isCode {post : Int32 → Prop} {W : Nat} (hp : ∀ j, j < 7 → yp j = nI (zf_pw j)) (hw : zd_A yw 7 W) (h : post (if zs_P W = 0 then 1 else 0)) : wpY_isCode post (yn, yc, yf, yl, yw, yp, ys) :=
  ⟨5, zy_c2 hp hw h 4 0 5 rfl (by omega) (fun j hj => absurd hj (Nat.not_lt_zero j))⟩
end
section
variable {bc rc fc mc : Int32} {pO lO gn : Nat → Int32} {ln : Nat → Int64} {fA wd sm lc od sh ev : Nat → Int32}
theorem zx_s15 {post : Int32 → SX → Prop} {J4 : Int32 → Int32 → (Nat → Int32) → (Nat → Int32) → (Nat → Int32) → (Nat → Int64) → (Nat → Int32) → (Nat → Int32) → (Nat → Int32) → (Nat → Int32) → (Nat → Int32) → (Nat → Int32) → (Nat → Int32) → Prop}
    {x1 : Int32} {k W : Nat} (hT : zf_T pO lO) (hk : k < 4) (hw : zd_A wd 7 W) (h0 : zs W (k + 1) = 0 → J4 x1 (nI (k + 2)) pO lO gn ln fA wd (upd sm k (nI (zs W (k + 1)))) lc od sh ev) (h1 : zs W (k + 1) ≠ 0 → J4 0 (nI (k + 2)) pO lO gn ln fA wd (upd sm k (nI (zs W (k + 1)))) lc od sh ev) :
    ∀ i acc n, i ≤ 7 → i < n → acc < 8 → zs_g (zd W) (k + 1) i acc = zs W (k + 1) → wX_sumsAreZero_15 post J4 x1 (nI (k + 1)) bc rc fc mc pO lO gn ln fA wd sm lc od sh ev n (nI acc) (nI i + (-1)) := by
  intro i
  induction i with
  | zero =>
    intro acc n hi hn ha he
    obtain ⟨n, rfl⟩ : ∃ n', n = n' + 1 := ⟨n - 1, by omega⟩
    have he' : acc = zs W (k + 1) := he
    subst he'
    refine br_t zn_m0 ?_
    rw [nI_pred k, nI_clamp (by omega), zn_b ha]
    refine ⟨vp_in_nI hk (by decide), nm_e ?_⟩
    by_cases z : zs W (k + 1) = 0
    · exact br_t (by rw [z]; exact nI_0) (nm_r (nI_1 _) (h0 z))
    · exact br_f (nI_ne0 (Nat.pos_of_ne_zero z) (by omega)) (nm_r (nI_1 _) (h1 z))
  | succ i ih =>
    intro acc n hi hn ha he
    obtain ⟨n, rfl⟩ : ∃ n', n = n' + 1 := ⟨n - 1, by omega⟩
    rw [pk_m1]
    refine br_f (nI_pos (by omega)) ⟨vp_in_nI (by omega) (by decide), ?_⟩
    rw [nI_clamp (n := k + 1) (by omega), hT.1 (k + 1) (by omega), nI_clamp (n := i) (by omega), hw i (by omega)]
    refine zx_prod _ _ hT ha (zf_pw_lt _) rfl rfl ⟨vp_in_nI (by omega) (by decide), ?_⟩
    exact nm_r (nx_xor _ _) (nm_e (ih _ n (by omega) (by omega) (zf_x8 (zf_gm_lt _ _) (zd_lt _ _)) he))
theorem zx_s4 {post : Int32 → SX → Prop} {W : Nat} (hT : zf_T pO lO) (hw : zd_A wd 7 W) (h : ∀ sm', zd_A sm' 4 (zs_P W) → post (if zs_P W = 0 then 1 else 0) (bc, rc, fc, mc, pO, lO, gn, ln, fA, wd, sm', lc, od, sh, ev)) :
    ∀ m k n (sm : Nat → Int32) (x1 : Int32), k + m = 4 → m < n → (∀ j, j < k → sm j = nI (zs W (j + 1))) → ((x1 = 1 ∧ ∀ j, j < k → zs W (j + 1) = 0) ∨ (x1 = 0 ∧ ¬ ∀ j, j < k → zs W (j + 1) = 0)) →
    wX_sumsAreZero_4 post bc rc fc mc n x1 (nI (k + 1)) pO lO gn ln fA wd sm lc od sh ev := by
  intro m
  induction m with
  | zero =>
    intro k n sm x1 hk hn hs hx
    obtain ⟨n, rfl⟩ : ∃ n', n = n' + 1 := ⟨n - 1, by omega⟩
    obtain rfl : k = 4 := by omega
    refine br_t (nI_lt (a := 4) (by omega) (by omega)) ?_
    have hp := h sm (fun j hj => by rw [hs j hj, zs_P_at W hj])
    rcases hx with ⟨rfl, hz⟩ | ⟨rfl, hz⟩
    · rw [if_pos ((zs_P_0 W).mpr hz)] at hp
      exact ⟨rfl, hp⟩
    · rw [if_neg (fun q => hz ((zs_P_0 W).mp q))] at hp
      exact ⟨rfl, hp⟩
  | succ m ih =>
    intro k n sm x1 hk hn hs hx
    obtain ⟨n, rfl⟩ : ∃ n', n = n' + 1 := ⟨n - 1, by omega⟩
    have hu : ∀ j, j < k + 1 → upd sm k (nI (zs W (k + 1))) j = nI (zs W (j + 1)) := by
      intro j hj
      by_cases q : j = k
      · rw [q]; exact pk_us
      · rw [pk_un q]; exact hs j (by omega)
    refine br_f (nI_nlt (a := 4) (by omega) (by omega)) ⟨8, ?_⟩
    refine zx_s15 (W := W) hT (by omega) hw (fun z => ?_) (fun z => ?_) 7 0 8 (by omega) (by omega) (by omega) (zs_hy _ (zd_lt W) _ (by omega) (by omega))
    · refine ih (k + 1) n _ _ (by omega) (by omega) hu ?_
      rcases hx with ⟨q, hz⟩ | ⟨q, hz⟩
      · refine Or.inl ⟨q, fun j hj => ?_⟩
        by_cases r : j = k
        · rw [r]; exact z
        · exact hz j (by omega)
      · exact Or.inr ⟨q, fun r => hz (fun j hj => r j (by omega))⟩
    · refine ih (k + 1) n _ _ (by omega) (by omega) hu (Or.inr ⟨rfl, fun r => z (r k (by omega))⟩)
theorem zx_sums {post : Int32 → SX → Prop} {W : Nat} (hT : zf_T pO lO) (hw : zd_A wd 7 W) (h : ∀ sm', zd_A sm' 4 (zs_P W) → post (if zs_P W = 0 then 1 else 0) (bc, rc, fc, mc, pO, lO, gn, ln, fA, wd, sm', lc, od, sh, ev)) : wpX_sumsAreZero post (bc, rc, fc, mc, pO, lO, gn, ln, fA, wd, sm, lc, od, sh, ev) :=
  ⟨5, zx_s4 hT hw h 4 0 5 sm 1 rfl (by omega) (fun j hj => absurd hj (Nat.not_lt_zero j)) (Or.inl ⟨rfl, fun j hj => absurd hj (Nat.not_lt_zero j)⟩)⟩
end
end
section
/-! findLocator -/
theorem zb_f_lt (S loc n : Nat) : ∀ i, zb_f S loc n i < 8 := by
  intro i
  induction i with
  | zero => exact zd_lt _ _
  | succ i ih => exact zf_x8 ih (zf_gm_lt _ _)
theorem zb_u_lt (loc aw q old j : Nat) : zb_u loc aw q old j < 8 := by
  unfold zb_u
  split
  · exact zf_x8 (zd_lt _ _) (zf_gm_lt _ _)
  · exact zd_lt _ _
theorem zb_1 : ∀ i, i < 5 → i ≠ 0 → zd 1 i = 0 := by decide +kernel
theorem zb_go_s (S m n L aw lf loc old : Nat) : zb_go S (m + 1) n L aw lf loc old = if zb_f S loc n L = 0 then zb_go S m (n + 1) L (aw + 1) lf loc old
    else if 2 * L ≤ n then zb_go S m (n + 1) (n + 1 - L) 1 (zb_f S loc n L) (zd_pk (zb_u loc aw (zf_gd (zb_f S loc n L) lf) old) 5) loc
    else zb_go S m (n + 1) L (aw + 1) lf (zd_pk (zb_u loc aw (zf_gd (zb_f S loc n L) lf) old) 5) old := by
  rw [zb_go, zz_s_eq, zz_s_eq]
section
variable {bc rc fc mc : Int32} {pO lO gn : Nat → Int32} {ln : Nat → Int64} {fA wd sm lc od sh ev : Nat → Int32}
theorem zx_fa10 {post : Int32 → Prop} {n L S loc : Nat} (hT : zf_T pO lO) (hs : zd_A sm 4 S) (hl : zd_A lc 5 loc) (hn : n < 4) (hL : L ≤ n) (h : post (nI (zb_f S loc n L))) :
    ∀ m i f, i + m = L → m < f → wX_faultAt_10 post (nI n) (nI L) bc rc fc mc pO lO gn ln fA wd sm lc od sh ev f (nI (zb_f S loc n i)) (nI (i + 1)) := by
  intro m
  induction m with
  | zero =>
    intro i f hi hf
    obtain ⟨f, rfl⟩ : ∃ f', f = f' + 1 := ⟨f - 1, by omega⟩
    obtain rfl : i = L := by omega
    exact br_t (nI_lt (by omega) (by omega)) h
  | succ m ih =>
    intro i f hi hf
    obtain ⟨f, rfl⟩ : ∃ f', f = f' + 1 := ⟨f - 1, by omega⟩
    refine br_f (nI_nlt (by omega) (by omega)) ⟨vp_in_nI (by omega) (by decide), ?_⟩
    rw [pk_sub (a := n) (b := i + 1) (by omega), nI_clamp (n := i + 1) (by omega), nI_clamp (n := n - (i + 1)) (by omega), hl (i + 1) (by omega), hs (n - (i + 1)) (by omega)]
    refine ⟨vp_in_nI (by omega) (by decide), zx_prod _ _ hT (zd_lt _ _) (zd_lt _ _) rfl rfl ?_⟩
    exact nm_r (nx_xor _ _) (nm_r (nI_1 _) (ih (i + 1) f (by omega) (by omega)))
theorem zx_fault {post : Int32 → Prop} {n L S loc : Nat} (hT : zf_T pO lO) (hs : zd_A sm 4 S) (hl : zd_A lc 5 loc) (hn : n < 4) (hL : L ≤ n) (h : post (nI (zb_f S loc n L))) : wpX_faultAt post (bc, rc, fc, mc, pO, lO, gn, ln, fA, wd, sm, lc, od, sh, ev) (nI n) (nI L) := by
  refine ⟨vp_in_nI hn (by decide), nm_r (e' := nI (zd S n)) (by rw [nI_clamp (by omega)]; exact hs n hn) ⟨L + 1, ?_⟩⟩
  exact zx_fa10 hT hs hl hn hL h L 0 (L + 1) (by omega) (by omega)
theorem zx_l192 {post : Int32 → SX → Prop} {J54 : Int32 → Int32 → Int32 → Int32 → (Nat → Int32) → (Nat → Int32) → (Nat → Int32) → (Nat → Int64) → (Nat → Int32) → (Nat → Int32) → (Nat → Int32) → (Nat → Int32) → (Nat → Int32) → (Nat → Int32) → (Nat → Int32) → Prop}
    {x1 x5 : Int32} {n P : Nat} (hs : zd_A sh 5 P) (h : ∀ od', zd_A od' 5 P → J54 x1 1 x5 (nI (n + 1)) pO lO gn ln fA wd sm lc od' sh ev) :
    ∀ m i f (od : Nat → Int32), i + m = 5 → m < f → (∀ j, j < i → od j = nI (zd P j)) → wX_findLocator_192 post J54 x1 (nI n) x5 bc rc fc mc f (nI i) pO lO gn ln fA wd sm lc od sh ev := by
  intro m
  induction m with
  | zero =>
    intro i f od hi hf ho
    obtain ⟨f, rfl⟩ : ∃ f', f = f' + 1 := ⟨f - 1, by omega⟩
    obtain rfl : i = 5 := by omega
    exact br_t (nI_le (a := 5) (by omega) (by omega)) (nm_r (nI_1 n) (h od ho))
  | succ m ih =>
    intro i f od hi hf ho
    obtain ⟨f, rfl⟩ : ∃ f', f = f' + 1 := ⟨f - 1, by omega⟩
    have hv : vp_in (nI i) 5 := vp_in_nI (by omega) (by decide)
    refine br_f (nI_ge (b := 5) (by omega) (by omega)) ⟨hv, hv, ?_⟩
    rw [nI_clamp (by omega), hs i (by omega), zn_b' (zd_lt _ _)]
    refine nm_e (nm_r (nI_1 i) (ih (i + 1) f _ (by omega) (by omega) (fun j hj => ?_)))
    by_cases q : j = i
    · rw [q]; exact pk_us
    · rw [pk_un q]; exact ho j (by omega)
theorem zx_l121 {post : Int32 → SX → Prop} {J54 : Int32 → Int32 → Int32 → Int32 → (Nat → Int32) → (Nat → Int32) → (Nat → Int32) → (Nat → Int64) → (Nat → Int32) → (Nat → Int32) → (Nat → Int32) → (Nat → Int32) → (Nat → Int32) → (Nat → Int32) → (Nat → Int32) → Prop}
    {x1 x3 x4 x5 : Int32} {loc q aw old : Nat} (hT : zf_T pO lO) (ho : zd_A od 5 old) (hq : q < 8)
    (h : ∀ lc', zd_A lc' 5 (zd_pk (zb_u loc aw q old) 5) → ((2 * x1) ≤ x4 → (∀ y : Int32, y = (x4 + 1) - x1 → (∃ g : Nat, wX_findLocator_192 post J54 y x4 x5 bc rc fc mc g 0 pO lO gn ln fA wd sm lc' od sh ev))) ∧ (¬ (2 * x1) ≤ x4 → (∀ y : Int32, y = nI aw + 1 → ∀ z : Int32, z = x4 + 1 → J54 x1 y x3 z pO lO gn ln fA wd sm lc' od sh ev))) :
    ∀ m i f (lc : Nat → Int32), i + m = 5 → m < f → aw ≤ i → zd_F lc 5 (fun j => if j < i then zb_u loc aw q old j else zd loc j) → wX_findLocator_121 post J54 x1 (nI aw) x3 x4 x5 (nI q) bc rc fc mc f (nI i) pO lO gn ln fA wd sm lc od sh ev := by
  intro m
  induction m with
  | zero =>
    intro i f lc hi hf ha hl
    obtain ⟨f, rfl⟩ : ∃ f', f = f' + 1 := ⟨f - 1, by omega⟩
    obtain rfl : i = 5 := by omega
    refine br_t (nI_le (a := 5) (by omega) (by omega)) (h lc (zd_FA (zd_Fc hl (fun j hj => if_pos hj)) (fun j _ => zb_u_lt _ _ _ _ _)))
  | succ m ih =>
    intro i f lc hi hf ha hl
    obtain ⟨f, rfl⟩ : ∃ f', f = f' + 1 := ⟨f - 1, by omega⟩
    have hv : vp_in (nI i) 5 := vp_in_nI (by omega) (by decide)
    have hli : lc i = nI (zd loc i) := by rw [hl i (by omega)]; show nI (if i < i then _ else _) = _; rw [if_neg (Nat.lt_irrefl i)]
    refine br_f (nI_ge (b := 5) (by omega) (by omega)) ?_
    rw [pk_sub ha, nI_clamp (n := i - aw) (by omega), ho (i - aw) (by omega), nI_clamp (n := i) (by omega), hli]
    refine ⟨vp_in_nI (by omega) (by decide), zx_prod _ _ hT hq (zd_lt _ _) rfl rfl ⟨hv, hv, ?_⟩⟩
    rw [nx_xor, zn_b (zf_x8 (zd_lt _ _) (zf_gm_lt _ _))]
    refine nm_e (nm_r (nI_1 i) (ih (i + 1) f _ (by omega) (by omega) (by omega) (zd_Fc (zd_Fu hl i _) (fun j hj => ?_))))
    by_cases r : j = i
    · rw [if_pos r, r, if_pos (by omega)]
      unfold zb_u
      rw [if_pos ha]
    · rw [if_neg r]
      by_cases t : j < i
      · rw [if_pos t, if_pos (by omega)]
      · rw [if_neg t, if_neg (by omega)]
theorem zx_l83 {post : Int32 → SX → Prop} {J54 : Int32 → Int32 → Int32 → Int32 → (Nat → Int32) → (Nat → Int32) → (Nat → Int32) → (Nat → Int64) → (Nat → Int32) → (Nat → Int32) → (Nat → Int32) → (Nat → Int32) → (Nat → Int32) → (Nat → Int32) → (Nat → Int32) → Prop}
    {x1 x2 x3 x4 x5 : Int32} {P : Nat} (hl : zd_A lc 5 P)
    (h : ∀ sh', zd_A sh' 5 P → wpX_quotient (fun r => ∃ g : Nat, wX_findLocator_121 post J54 x1 x2 x3 x4 x5 r bc rc fc mc g x2 pO lO gn ln fA wd sm lc od sh' ev) (bc, rc, fc, mc, pO, lO, gn, ln, fA, wd, sm, lc, od, sh', ev) x5 x3) :
    ∀ m i f (sh : Nat → Int32), i + m = 5 → m < f → (∀ j, j < i → sh j = nI (zd P j)) → wX_findLocator_83 post J54 x1 x2 x3 x4 x5 bc rc fc mc f (nI i) pO lO gn ln fA wd sm lc od sh ev := by
  intro m
  induction m with
  | zero =>
    intro i f sh hi hf ho
    obtain ⟨f, rfl⟩ : ∃ f', f = f' + 1 := ⟨f - 1, by omega⟩
    obtain rfl : i = 5 := by omega
    exact br_t (nI_le (a := 5) (by omega) (by omega)) (h sh ho)
  | succ m ih =>
    intro i f sh hi hf ho
    obtain ⟨f, rfl⟩ : ∃ f', f = f' + 1 := ⟨f - 1, by omega⟩
    have hv : vp_in (nI i) 5 := vp_in_nI (by omega) (by decide)
    refine br_f (nI_ge (b := 5) (by omega) (by omega)) ⟨hv, hv, ?_⟩
    rw [nI_clamp (by omega), hl i (by omega), zn_b' (zd_lt _ _)]
    refine nm_e (nm_r (nI_1 i) (ih (i + 1) f _ (by omega) (by omega) (fun j hj => ?_)))
    by_cases q : j = i
    · rw [q]; exact pk_us
    · rw [pk_un q]; exact ho j (by omega)
theorem zx_l54 {post : Int32 → SX → Prop} {S : Nat} (hT : zf_T pO lO) (hs : zd_A sm 4 S)
    (h : ∀ (L loc : Nat) (lc' od' sh' : Nat → Int32), zb_R S = L * 32768 + loc → loc < 32768 → L ≤ 4 → zd_A lc' 5 loc → post (nI L) (bc, rc, fc, mc, pO, lO, gn, ln, fA, wd, sm, lc', od', sh', ev)) :
    ∀ m n f (L aw lf loc old : Nat) (lc od sh : Nat → Int32), n + m = 4 → m < f → L ≤ n → 1 ≤ aw → aw ≤ n + 1 → lf ≠ 0 → lf < 8 → loc < 32768 → zd_A lc 5 loc → zd_A od 5 old → zb_go S m n L aw lf loc old = zb_R S →
    wX_findLocator_54 post bc rc fc mc f (nI L) (nI aw) (nI lf) (nI n) pO lO gn ln fA wd sm lc od sh ev := by
  intro m
  induction m with
  | zero =>
    intro n f L aw lf loc old lc od sh hn hf hL h1 h2 h3 h4 h5 hl ho he
    obtain ⟨f, rfl⟩ : ∃ f', f = f' + 1 := ⟨f - 1, by omega⟩
    obtain rfl : n = 4 := by omega
    exact br_t (nI_le (a := 4) (by omega) (by omega)) (h L loc lc od sh he.symm h5 hL hl)
  | succ m ih =>
    intro n f L aw lf loc old lc od sh hn hf hL h1 h2 h3 h4 h5 hl ho he
    obtain ⟨f, rfl⟩ : ∃ f', f = f' + 1 := ⟨f - 1, by omega⟩
    rw [zb_go_s] at he
    refine br_f (nI_ge (b := 4) (by omega) (by omega)) (zx_fault hT hs hl (by omega) hL ?_)
    by_cases z : zb_f S loc n L = 0
    · rw [if_pos z] at he
      refine br_t (by rw [z]; exact nI_0) (nm_r (nI_1 _) (nm_r (nI_1 _) ?_))
      exact ih (n + 1) f L (aw + 1) lf loc old lc od sh (by omega) (by omega) (by omega) (by omega) (by omega) h3 h4 h5 hl ho he
    · rw [if_neg z] at he
      have hfl := zb_f_lt S loc n L
      have hpk : zd_pk (zb_u loc aw (zf_gd (zb_f S loc n L) lf) old) 5 < 32768 := zd_pk_lt 5 (fun j _ => zb_u_lt _ _ _ _ _)
      refine br_f (nI_ne0 (Nat.pos_of_ne_zero z) (by omega)) ⟨6, zx_l83 hl (fun sh' hsh => ?_) 5 0 6 sh rfl (by omega) (fun j hj => absurd hj (Nat.not_lt_zero j))⟩
      refine zx_quot _ _ hT hfl h4 h3 rfl rfl ⟨6, ?_⟩
      refine zx_l121 (loc := loc) (old := old) hT ho (zf_gd_lt _ _) (fun lc' hlc => ?_) (5 - aw) aw 6 lc (by omega) (by omega) (Nat.le_refl _) (zd_Fc hl (fun j hj => ?_))
      · refine pk_le (2 * L) n (fun c => ?_) (fun c => ?_) (pk_mul 2 L) rfl
        · rw [if_pos c] at he
          refine nm_r (e' := nI (n + 1 - L)) (by rw [nI_1, pk_sub (by omega)]) ⟨6, zx_l192 hsh (fun od' hod => ?_) 5 0 6 od rfl (by omega) (fun j hj => absurd hj (Nat.not_lt_zero j))⟩
          exact ih (n + 1) f (n + 1 - L) 1 _ _ _ lc' od' sh' (by omega) (by omega) (by omega) (by omega) (by omega) z hfl hpk hlc hod he
        · rw [if_neg (by omega)] at he
          refine nm_r (nI_1 _) (nm_r (nI_1 _) ?_)
          exact ih (n + 1) f L (aw + 1) lf _ old lc' od sh' (by omega) (by omega) (by omega) (by omega) (by omega) h3 h4 hpk hlc ho he
      · show zd loc j = if j < aw then zb_u loc aw _ old j else zd loc j
        by_cases t : j < aw
        · rw [if_pos t]; unfold zb_u; rw [if_neg (by omega)]
        · rw [if_neg t]
theorem zx_l2 {post : Int32 → SX → Prop} (h : ∀ lc' od', zd_A lc' 5 1 → zd_A od' 5 1 → ∃ g : Nat, wX_findLocator_54 post bc rc fc mc g 0 1 1 0 pO lO gn ln fA wd sm lc' od' sh ev) :
    ∀ m i f (lc od : Nat → Int32), i + m = 5 → m < f → (∀ j, j < i → lc j = nI (zd 1 j)) → (∀ j, j < i → od j = nI (zd 1 j)) → wX_findLocator_2 post bc rc fc mc f (nI i) pO lO gn ln fA wd sm lc od sh ev := by
  intro m
  induction m with
  | zero =>
    intro i f lc od hi hf h1 h2
    obtain ⟨f, rfl⟩ : ∃ f', f = f' + 1 := ⟨f - 1, by omega⟩
    obtain rfl : i = 5 := by omega
    exact br_t (nI_le (a := 5) (by omega) (by omega)) (h lc od h1 h2)
  | succ m ih =>
    intro i f lc od hi hf h1 h2
    obtain ⟨f, rfl⟩ : ∃ f', f = f' + 1 := ⟨f - 1, by omega⟩
    have hv : vp_in (nI i) 5 := vp_in_nI (by omega) (by decide)
    have hu : ∀ (a : Nat → Int32), (∀ j, j < i → a j = nI (zd 1 j)) → ∀ j, j < i + 1 → upd a i (nI (zd 1 i)) j = nI (zd 1 j) := by
      intro a ha j hj
      by_cases q : j = i
      · rw [q]; exact pk_us
      · rw [pk_un q]; exact ha j (by omega)
    refine br_f (nI_ge (b := 5) (by omega) (by omega)) ?_
    by_cases z : i = 0
    · subst z
      have e : vp_nar .byte ((1 : Int32).toInt8.toInt32) = nI (zd 1 0) := zn_b (v := 1) (by decide)
      refine br_t nI_0 ⟨hv, nm_r (e' := upd lc 0 (nI (zd 1 0))) (by rw [nI_clamp (by omega), e]) (br_t nI_0 ⟨hv, nm_r (e' := upd od 0 (nI (zd 1 0))) (by rw [nI_clamp (by omega), e]) (nm_r (nI_1 0) ?_)⟩)⟩
      exact ih 1 f _ _ (by omega) (by omega) (hu lc h1) (hu od h2)
    · have hn : ¬ nI i = 0 := nI_ne0 (by omega) (by omega)
      have e : vp_nar .byte ((0 : Int32).toInt8.toInt32) = nI (zd 1 i) := by rw [zb_1 i (by omega) z]; exact zn_b (v := 0) (by decide)
      refine br_f hn ⟨hv, nm_r (e' := upd lc i (nI (zd 1 i))) (by rw [nI_clamp (by omega), e]) (br_f hn ⟨hv, nm_r (e' := upd od i (nI (zd 1 i))) (by rw [nI_clamp (by omega), e]) (nm_r (nI_1 i) ?_)⟩)⟩
      exact ih (i + 1) f _ _ (by omega) (by omega) (hu lc h1) (hu od h2)
theorem zx_loc {post : Int32 → SX → Prop} {S : Nat} (hT : zf_T pO lO) (hs : zd_A sm 4 S)
    (h : ∀ (L loc : Nat) (lc' od' sh' : Nat → Int32), zb_R S = L * 32768 + loc → loc < 32768 → L ≤ 4 → zd_A lc' 5 loc → post (nI L) (bc, rc, fc, mc, pO, lO, gn, ln, fA, wd, sm, lc', od', sh', ev)) : wpX_findLocator post (bc, rc, fc, mc, pO, lO, gn, ln, fA, wd, sm, lc, od, sh, ev) := by
  refine ⟨6, zx_l2 (fun lc' od' h1 h2 => ⟨5, ?_⟩) 5 0 6 lc od rfl (by omega) (fun j hj => absurd hj (Nat.not_lt_zero j)) (fun j hj => absurd hj (Nat.not_lt_zero j))⟩
  exact zx_l54 hT hs h 4 0 5 0 1 1 1 1 lc' od' sh rfl (by omega) (by omega) (by omega) (by omega) (by decide) (by decide) (by decide) h1 h2 rfl
end
end
section
/-! findEvaluator, correct -/
theorem zb_e_lt (S loc n : Nat) : ∀ i, zb_e S loc n i < 8 := by
  intro i
  induction i with
  | zero => exact (by decide : 0 < 8)
  | succ i ih => exact zf_x8 ih (zf_gm_lt _ _)
theorem zk_v_lt (loc iv : Nat) : ∀ d, zk_v loc iv d < 8 := by
  intro d
  induction d with
  | zero => exact (by decide : 0 < 8)
  | succ d ih => exact zf_x8 ih (zf_gm_lt _ _)
theorem zk_s_lt (loc iv : Nat) : ∀ d, zk_s loc iv d < 8 := by
  intro d
  induction d with
  | zero => exact (by decide : 0 < 8)
  | succ d ih =>
    unfold zk_s
    split
    · exact zf_x8 ih (zf_gm_lt _ _)
    · exact ih
theorem zk_a_lt (ev iv : Nat) : ∀ d, zk_a ev iv d < 8 := by
  intro d
  induction d with
  | zero => exact (by decide : 0 < 8)
  | succ d ih =>
    unfold zk_a
    split
    · exact zf_x8 ih (zf_gm_lt _ _)
    · exact ih
theorem zk_a_s {ev iv d : Nat} (h : d < 4) : zk_a ev iv (d + 1) = zk_a ev iv d ^^^ zf_gm (zd ev d) (zf_pw (iv * d % 7)) := if_pos h
theorem zk_a_n {ev iv d : Nat} (h : ¬ d < 4) : zk_a ev iv (d + 1) = zk_a ev iv d := if_neg h
theorem zk_s_s {loc iv d : Nat} (h : d % 2 = 1) : zk_s loc iv (d + 1) = zk_s loc iv d ^^^ zf_gm (zd loc d) (zf_pw (iv * (d - 1) % 7)) := if_pos h
theorem zk_s_n {loc iv d : Nat} (h : ¬ d % 2 = 1) : zk_s loc iv (d + 1) = zk_s loc iv d := if_neg h
theorem zk_c_s {e : Nat → Nat} {n : Nat} : zk_c e (n + 1) = if e n = 0 then zk_c e n else zk_c e n + 1 := rfl
theorem zk_c_le (e : Nat → Nat) : ∀ n, zk_c e n ≤ n := by
  intro n
  induction n with
  | zero => exact Nat.le_refl 0
  | succ n ih => rw [zk_c_s]; split <;> omega
theorem zk_c_c {e e' : Nat → Nat} : ∀ n, (∀ j, j < n → e j = e' j) → zk_c e n = zk_c e' n := by
  intro n
  induction n with
  | zero => intro _; rfl
  | succ n ih =>
    intro h
    rw [zk_c_s, zk_c_s, h n (by omega), ih (fun j hj => h j (by omega))]
theorem zn_r7 {a b : Nat} (ha : a < 7) (hb : b < 7) : nI a * nI b - nI a * nI b / 7 * 7 = nI (a * b % 7) := by
  have h : a * b ≤ 7 * 7 := Nat.mul_le_mul (by omega) (by omega)
  rw [pk_mul]
  exact pk_rem (d := 7) (by omega) (by decide) (by decide)
section
variable {bc rc fc mc : Int32} {pO lO gn : Nat → Int32} {ln : Nat → Int64} {fA wd sm lc od sh ev : Nat → Int32}
theorem zx_e11 {post : SX → Prop} {J2 : Int32 → (Nat → Int32) → (Nat → Int32) → (Nat → Int32) → (Nat → Int64) → (Nat → Int32) → (Nat → Int32) → (Nat → Int32) → (Nat → Int32) → (Nat → Int32) → (Nat → Int32) → (Nat → Int32) → Prop}
    {n S loc : Nat} (hT : zf_T pO lO) (hs : zd_A sm 4 S) (hl : zd_A lc 5 loc) (hn : n < 4) (h : J2 (nI (n + 1)) pO lO gn ln fA wd sm lc od sh (upd ev n (nI (zb_e S loc n (n + 1))))) :
    ∀ m i f, i + m = n + 1 → m < f → wX_findEvaluator_11 post J2 (nI n) bc rc fc mc pO lO gn ln fA wd sm lc od sh ev f (nI (zb_e S loc n i)) (nI i) := by
  intro m
  induction m with
  | zero =>
    intro i f hi hf
    obtain ⟨f, rfl⟩ : ∃ f', f = f' + 1 := ⟨f - 1, by omega⟩
    obtain rfl : i = n + 1 := by omega
    refine br_t (nI_lt (by omega) (by omega)) ⟨vp_in_nI hn (by decide), ?_⟩
    rw [nI_clamp (by omega), zn_b (zb_e_lt _ _ _ _)]
    exact nm_e (nm_r (nI_1 n) h)
  | succ m ih =>
    intro i f hi hf
    obtain ⟨f, rfl⟩ : ∃ f', f = f' + 1 := ⟨f - 1, by omega⟩
    refine br_f (nI_nlt (by omega) (by omega)) ⟨vp_in_nI (by omega) (by decide), ?_⟩
    rw [pk_sub (a := n) (b := i) (by omega), nI_clamp (n := i) (by omega), nI_clamp (n := n - i) (by omega), hl i (by omega), hs (n - i) (by omega)]
    refine ⟨vp_in_nI (by omega) (by decide), zx_prod _ _ hT (zd_lt _ _) (zd_lt _ _) rfl rfl ?_⟩
    exact nm_r (nx_xor _ _) (nm_r (nI_1 _) (ih (i + 1) f (by omega) (by omega)))
theorem zx_e2 {post : SX → Prop} {S loc : Nat} (hT : zf_T pO lO) (hs : zd_A sm 4 S) (hl : zd_A lc 5 loc) (h : ∀ ev', zd_A ev' 4 (zb_ev S loc) → post (bc, rc, fc, mc, pO, lO, gn, ln, fA, wd, sm, lc, od, sh, ev')) :
    ∀ m n f (ev : Nat → Int32), n + m = 4 → m < f → (∀ j, j < n → ev j = nI (zb_e S loc j (j + 1))) → wX_findEvaluator_2 post bc rc fc mc f (nI n) pO lO gn ln fA wd sm lc od sh ev := by
  intro m
  induction m with
  | zero =>
    intro n f ev hn hf he
    obtain ⟨f, rfl⟩ : ∃ f', f = f' + 1 := ⟨f - 1, by omega⟩
    obtain rfl : n = 4 := by omega
    exact br_t (nI_le (a := 4) (by omega) (by omega)) (h ev (zd_FA (g := fun n => zb_e S loc n (n + 1)) he (fun j _ => zb_e_lt _ _ _ _)))
  | succ m ih =>
    intro n f ev hn hf he
    obtain ⟨f, rfl⟩ : ∃ f', f = f' + 1 := ⟨f - 1, by omega⟩
    refine br_f (nI_ge (b := 4) (by omega) (by omega)) ⟨n + 2, ?_⟩
    refine zx_e11 hT hs hl (by omega) ?_ (n + 1) 0 (n + 2) (by omega) (by omega)
    refine ih (n + 1) f _ (by omega) (by omega) (fun j hj => ?_)
    by_cases q : j = n
    · rw [q]; exact pk_us
    · rw [pk_un q]; exact he j (by omega)
theorem zx_eval {post : SX → Prop} {S loc : Nat} (hT : zf_T pO lO) (hs : zd_A sm 4 S) (hl : zd_A lc 5 loc) (h : ∀ ev', zd_A ev' 4 (zb_ev S loc) → post (bc, rc, fc, mc, pO, lO, gn, ln, fA, wd, sm, lc, od, sh, ev')) : wpX_findEvaluator post (bc, rc, fc, mc, pO, lO, gn, ln, fA, wd, sm, lc, od, sh, ev) :=
  ⟨5, zx_e2 hT hs hl h 4 0 5 ev rfl (by omega) (fun j hj => absurd hj (Nat.not_lt_zero j))⟩
theorem zx_k92 {post : Int32 → SX → Prop} {J4 : Int32 → Int32 → (Nat → Int32) → (Nat → Int32) → (Nat → Int32) → (Nat → Int64) → (Nat → Int32) → (Nat → Int32) → (Nat → Int32) → (Nat → Int32) → (Nat → Int32) → (Nat → Int32) → (Nat → Int32) → Prop}
    {J30 : Int32 → Int32 → Int32 → Int32 → Prop} {x1 x2 x4 x6 : Int32} {iv d loc : Nat} (hT : zf_T pO lO) (hl : zd_A lc 5 loc) (hd : d < 5) (hi : iv < 7) (h : J30 x4 (nI (zk_s loc iv (d + 1))) x6 (nI (d + 1))) :
    wX_correct_92 post J4 J30 x1 x2 (nI iv) x4 (nI (zk_s loc iv d)) x6 (nI d) bc rc fc mc pO lO gn ln fA wd sm lc od sh ev := by
  have e : nI d &&& 1 = nI (d % 2) := pk_andN (by omega) 1 (by decide)
  refine ek_if (d := d % 2 = 1) ?_ (fun c => ?_) (fun c => ?_)
  · rw [e]; exact nI_eq (b := 1) (by omega) (by omega)
  · have e1 : nI d - 1 = nI (d - 1) := pk_sub (b := 1) (by omega)
    rw [zk_s_s c] at h
    refine ⟨vp_in_nI hd (by decide), by decide, ?_⟩
    rw [e1, zn_r7 hi (by omega), nI_clamp (n := d) (by omega), nI_clamp (n := iv * (d - 1) % 7) (by omega), hl d hd, hT.1 (iv * (d - 1) % 7) (by omega)]
    refine ⟨vp_in_nI (by omega) (by decide), zx_prod _ _ hT (zd_lt _ _) (zf_pw_lt _) rfl rfl ?_⟩
    exact nm_r (nx_xor _ _) (nm_r (nI_1 d) h)
  · rw [zk_s_n c] at h
    exact nm_r (nI_1 d) h
theorem zx_k30 {post : Int32 → SX → Prop} {J4 : Int32 → Int32 → (Nat → Int32) → (Nat → Int32) → (Nat → Int32) → (Nat → Int64) → (Nat → Int32) → (Nat → Int32) → (Nat → Int32) → (Nat → Int32) → (Nat → Int32) → (Nat → Int32) → (Nat → Int32) → Prop}
    {c i iv loc EV : Nat} {g : Nat → Nat} (hT : zf_T pO lO) (hl : zd_A lc 5 loc) (he : zd_A ev 4 EV) (hw : zd_F wd 7 g) (hg : ∀ j, j < 7 → g j < 8) (hi : i < 7) (hiv : iv = (7 - i) % 7)
    (h : ∀ wd', zd_F wd' 7 (fun j => if j = i then g j ^^^ zk_q loc EV i else g j) → J4 (nI (if zk_q loc EV i = 0 then c else c + 1)) (nI (i + 1)) pO lO gn ln fA wd' sm lc od sh ev) :
    ∀ m d f, d + m = 5 → m < f → wX_correct_30 post J4 (nI c) (nI i) (nI iv) bc rc fc mc pO lO gn ln fA wd sm lc od sh ev f (nI (zk_v loc iv d)) (nI (zk_s loc iv d)) (nI (zk_a EV iv d)) (nI d) := by
  have hi7 : iv < 7 := by rw [hiv]; exact Nat.mod_lt _ (by decide)
  have hq : zk_q loc EV i = if zk_v loc iv 5 = 0 then (if zk_s loc iv 5 = 0 then 0 else zf_gd (zk_a EV iv 5) (zk_s loc iv 5)) else 0 := by
    unfold zk_q
    rw [zz_s_eq, ← hiv]
  have hsame : zk_q loc EV i = 0 → J4 (nI c) (nI (i + 1)) pO lO gn ln fA wd sm lc od sh ev := by
    intro z
    have := h wd (zd_Fc hw (fun j hj => by rw [z, Nat.xor_zero]; split <;> rfl))
    rw [if_pos z] at this
    exact this
  intro m
  induction m with
  | zero =>
    intro d f hd hf
    obtain ⟨f, rfl⟩ : ∃ f', f = f' + 1 := ⟨f - 1, by omega⟩
    obtain rfl : d = 5 := by omega
    have hv8 := zk_v_lt loc iv 5
    have hs8 := zk_s_lt loc iv 5
    have ha8 := zk_a_lt EV iv 5
    refine br_t (nI_le (a := 5) (by omega) (by omega)) ?_
    by_cases z : zk_v loc iv 5 = 0
    · refine br_t (by rw [z]; exact nI_0) ?_
      rw [if_pos z] at hq
      by_cases y : zk_s loc iv 5 = 0
      · rw [if_pos y] at hq
        exact br_t (by rw [y]; exact nI_0) (nm_r (nI_1 i) (hsame hq))
      · rw [if_neg y] at hq
        have hv : vp_in (nI i) 7 := vp_in_nI hi (by decide)
        refine br_f (nI_ne0 (Nat.pos_of_ne_zero y) (by omega)) (zx_quot _ _ hT ha8 hs8 y rfl rfl ⟨hv, hv, ?_⟩)
        rw [← hq, nI_clamp (n := i) (by omega), hw i hi, nx_xor, zn_b (zf_x8 (hg i hi) (zk_q_lt _ _ _))]
        have hk := h _ (zd_Fc (zd_Fu hw i (g i ^^^ zk_q loc EV i)) (fun j hj => by
          by_cases r : j = i
          · rw [if_pos r, if_pos r, r]
          · rw [if_neg r, if_neg r]))
        refine nm_e ?_
        by_cases t : zk_q loc EV i = 0
        · rw [if_pos t] at hk
          exact br_t (by rw [t]; exact nI_0) (nm_r (nI_1 i) hk)
        · rw [if_neg t] at hk
          exact br_f (nI_ne0 (Nat.pos_of_ne_zero t) (by have := zk_q_lt loc EV i; omega)) (nm_r (nI_1 c) (nm_r (nI_1 i) hk))
    · rw [if_neg z] at hq
      exact br_f (nI_ne0 (Nat.pos_of_ne_zero z) (by omega)) (nm_r (nI_1 i) (hsame hq))
  | succ m ih =>
    intro d f hd hf
    obtain ⟨f, rfl⟩ : ∃ f', f = f' + 1 := ⟨f - 1, by omega⟩
    have hm : iv * d % 7 < 7 := Nat.mod_lt _ (by decide)
    refine br_f (nI_ge (b := 5) (by omega) (by omega)) ⟨by decide, ?_⟩
    rw [zn_r7 hi7 (by omega), nI_clamp (n := iv * d % 7) (by omega), hT.1 (iv * d % 7) (by omega), nI_clamp (n := d) (by omega), hl d (by omega)]
    refine ⟨vp_in_nI (by omega) (by decide), nm_e ⟨vp_in_nI (by omega) (by decide), zx_prod _ _ hT (zd_lt _ _) (zf_pw_lt _) rfl rfl ?_⟩⟩
    refine nm_r (nx_xor _ _) (pk_le 4 d (fun c4 => ?_) (fun c4 => ?_))
    · have h2 := ih (d + 1) f (by omega) (by omega)
      rw [zk_a_n (by omega)] at h2
      exact zx_k92 hT hl (by omega) hi7 h2
    · have h2 := ih (d + 1) f (by omega) (by omega)
      rw [zk_a_s (by omega)] at h2
      rw [he d (by omega)]
      exact ⟨vp_in_nI (by omega) (by decide), zx_prod _ _ hT (zd_lt _ _) (zf_pw_lt _) rfl rfl (nm_r (nx_xor _ _) (zx_k92 hT hl (by omega) hi7 h2))⟩
theorem zx_k4 {post : Int32 → SX → Prop} {W loc EV : Nat} (hT : zf_T pO lO) (hl : zd_A lc 5 loc) (he : zd_A ev 4 EV)
    (h : ∀ wd', zd_A wd' 7 (W ^^^ zk_E loc EV) → post (nI (zk_c (zd (zk_E loc EV)) 7)) (bc, rc, fc, mc, pO, lO, gn, ln, fA, wd', sm, lc, od, sh, ev)) :
    ∀ m i f (wd : Nat → Int32), i + m = 7 → m < f → zd_F wd 7 (fun j => if j < i then zd W j ^^^ zk_q loc EV j else zd W j) → wX_correct_4 post bc rc fc mc f (nI (zk_c (zk_q loc EV) i)) (nI i) pO lO gn ln fA wd sm lc od sh ev := by
  intro m
  induction m with
  | zero =>
    intro i f wd hi hf hw
    obtain ⟨f, rfl⟩ : ∃ f', f = f' + 1 := ⟨f - 1, by omega⟩
    obtain rfl : i = 7 := by omega
    have h2 := h wd (zd_Fc hw (fun j hj => by rw [if_pos hj, zd_xor, zk_E_at _ _ hj]))
    rw [zk_c_c (e' := zk_q loc EV) 7 (fun j hj => zk_E_at _ _ hj)] at h2
    exact br_t (nI_le (a := 7) (by omega) (by omega)) h2
  | succ m ih =>
    intro i f wd hi hf hw
    obtain ⟨f, rfl⟩ : ∃ f', f = f' + 1 := ⟨f - 1, by omega⟩
    have e : (7 : Int32) - nI i = nI (7 - i) := pk_sub (a := 7) (by omega)
    have e2 : (7 : Int32) - nI i - (7 - nI i) / 7 * 7 = nI ((7 - i) % 7) := by
      rw [e]
      exact pk_rem (d := 7) (by omega) (by decide) (by decide)
    refine br_f (nI_ge (b := 7) (by omega) (by omega)) ⟨by decide, nm_r e2 ⟨6, ?_⟩⟩
    refine zx_k30 (g := fun j => if j < i then zd W j ^^^ zk_q loc EV j else zd W j) hT hl he hw (fun j hj => ?_) (by omega) rfl (fun wd' hw' => ?_) 5 0 6 rfl (by omega)
    · split
      · exact zf_x8 (zd_lt _ _) (zk_q_lt _ _ _)
      · exact zd_lt _ _
    · rw [← zk_c_s]
      refine ih (i + 1) f wd' (by omega) (by omega) (zd_Fc hw' (fun j hj => ?_))
      by_cases r : j = i
      · rw [if_pos r, r, if_neg (Nat.lt_irrefl i), if_pos (by omega)]
      · rw [if_neg r]
        by_cases t : j < i
        · rw [if_pos t, if_pos (by omega)]
        · rw [if_neg t, if_neg (by omega)]
theorem zx_correct {post : Int32 → SX → Prop} {W loc EV : Nat} (hT : zf_T pO lO) (hl : zd_A lc 5 loc) (he : zd_A ev 4 EV) (hw : zd_A wd 7 W)
    (h : ∀ wd', zd_A wd' 7 (W ^^^ zk_E loc EV) → post (nI (zk_c (zd (zk_E loc EV)) 7)) (bc, rc, fc, mc, pO, lO, gn, ln, fA, wd', sm, lc, od, sh, ev)) : wpX_correct post (bc, rc, fc, mc, pO, lO, gn, ln, fA, wd, sm, lc, od, sh, ev) :=
  ⟨8, zx_k4 hT hl he h 7 0 8 wd rfl (by omega) (zd_Fc hw (fun j _ => (if_neg (Nat.not_lt_zero j)).symm))⟩
end
end
section
/-! symbols of a frame; the class's mendWord -/
def zr_s (j : Nat) : Nat := (j * j + 3 * j + 5) % 8
def zr_c (b : Nat → Bool) (q : Nat) : Nat := 2 * (2 * (2 * 0 + (b (q + 0)).toNat) + (b (q + 1)).toNat) + (b (q + 2)).toNat
def zr_v (b : Nat → Bool) (p j : Nat) : Nat := zr_c b (p + 8 + 3 * j) ^^^ zr_s j
def zr_W (b : Nat → Bool) (p w : Nat) : Nat := zd_pk (fun i => zr_v b p (2 * i + w)) 7
theorem zr_b1 (b : Bool) : b.toNat ≤ 1 := by cases b <;> decide
theorem zr_v_lt (b : Nat → Bool) (p j : Nat) : zr_v b p j < 8 := by
  refine zf_x8 ?_ (Nat.mod_lt _ (by decide))
  unfold zr_c
  have h1 := zr_b1 (b (p + 8 + 3 * j + 0))
  have h2 := zr_b1 (b (p + 8 + 3 * j + 1))
  have h3 := zr_b1 (b (p + 8 + 3 * j + 2))
  omega
theorem zn_scr {j : Nat} (h : j < 14) : ((nI j * nI j + 3 * nI j) + 5) &&& 7 = nI (zr_s j) := by
  have hb : j * j ≤ 14 * 14 := Nat.mul_le_mul (by omega) (by omega)
  rw [pk_mul, show 3 * nI j = nI (3 * j) from pk_mul 3 j, nI_add, show nI (j * j + 3 * j) + 5 = nI (j * j + 3 * j + 5) from nI_add _ 5]
  exact pk_andN (by omega) 3 (by decide)
theorem zn_ix (p j k : Nat) : ((nI p + 8) + (3 * nI j)) + nI k = nI (p + 8 + 3 * j + k) := by
  rw [show 3 * nI j = nI (3 * j) from pk_mul 3 j, show nI p + 8 = nI (p + 8) from nI_add _ 8, nI_add, nI_add]
theorem zn_2i (i w : Nat) : (2 * nI i) + nI w = nI (2 * i + w) := by
  rw [show 2 * nI i = nI (2 * i) from pk_mul 2 i, nI_add]
section
variable {bc rc fc mc : Int32} {pO lO gn : Nat → Int32} {ln : Nat → Int64} {fA wd sm lc od sh ev : Nat → Int32}
theorem zx_sy1 {post : Int32 → Prop} {b : Nat → Bool} {p j s k f : Nat} (hl : zl_X ln b) (hk : k < 3) (hq : p + 8 + 3 * j + k < 300) (h : wX_symbolAt_5 post (nI p) (nI j) bc rc fc mc pO lO gn ln fA wd sm lc od sh ev f (nI (2 * s + (b (p + 8 + 3 * j + k)).toNat)) (nI (k + 1))) :
    wX_symbolAt_5 post (nI p) (nI j) bc rc fc mc pO lO gn ln fA wd sm lc od sh ev (f + 1) (nI s) (nI k) := by
  refine br_f (nI_ge (b := 3) hk (by omega)) (zx_bitAt (p + 8 + 3 * j + k) hl hq (zn_ix p j k) ?_)
  exact nm_r (zn_2i s _) (nm_r (nI_1 k) h)
theorem zx_sym {post : Int32 → Prop} {x y : Int32} {b : Nat → Bool} (p j : Nat) (hl : zl_X ln b) (hp : p + 50 ≤ 300) (hj : j < 14) (hx : x = nI p) (hy : y = nI j) (h : post (nI (zr_v b p j))) : wpX_symbolAt post (bc, rc, fc, mc, pO, lO, gn, ln, fA, wd, sm, lc, od, sh, ev) x y := by
  subst hx hy
  refine ⟨4, ?_⟩
  refine zx_sy1 (s := 0) (k := 0) hl (by omega) (by omega) (zx_sy1 (k := 1) hl (by omega) (by omega) (zx_sy1 (k := 2) hl (by omega) (by omega) ?_))
  refine br_t (nI_le (a := 3) (by omega) (by omega)) ?_
  show post (nI (zr_c b (p + 8 + 3 * j)) ^^^ (((nI j * nI j + 3 * nI j) + 5) &&& 7))
  rw [zn_scr hj, nx_xor]
  exact h
theorem zx_mtail {post : Int32 → SX → Prop} {W : Nat} {x1 x2 : Int32} (hT : zf_T pO lO) (hw : zd_A wd 7 W)
    (h : ∀ (mc' : Int32) (wd' sm' lc' od' sh' ev' : Nat → Int32), (zm_ok (zs_P W) = true → mc' = nI (zm_c (zs_P W)) ∧ zd_A wd' 7 (W ^^^ zm_E (zs_P W))) → post (nI (zm_ok (zs_P W)).toNat) (bc, rc, fc, mc', pO, lO, gn, ln, fA, wd', sm', lc', od', sh', ev'))
    (f : Nat) : wX_mendWord_2 post x1 x2 bc rc fc mc (f + 1) (nI 7) pO lO gn ln fA wd sm lc od sh ev := by
  refine br_t (nI_le (a := 7) (by omega) (by omega)) (zx_sums hT hw (fun sm1 hs1 => ?_))
  by_cases z : zs_P W = 0
  · rw [if_pos z]
    have hk : zm_ok (zs_P W) = true := decide_eq_true (Or.inl z)
    have h1 := h 0 wd sm1 lc od sh ev (fun _ => by
      rw [z]
      exact ⟨rfl, by rw [show zm_E 0 = 0 from rfl, Nat.xor_zero]; exact hw⟩)
    rw [hk] at h1
    exact br_f (by decide) h1
  · rw [if_neg z]
    refine br_t rfl (zx_loc hT hs1 (fun L loc lc1 od1 sh1 hR hloc hL hlc => ?_))
    have hE : zm_E (zs_P W) = zk_E loc (zb_ev (zs_P W) loc) := by
      unfold zm_E
      rw [if_neg z, zz_s_eq, zz_s_eq, show zb_R (zs_P W) % 32768 = loc from by omega]
    have hLL : zm_L (zs_P W) = L := by unfold zm_L; omega
    have hno : ¬ (zs_P W = 0 ∨ (zm_L (zs_P W) ≤ 2 ∧ zm_c (zs_P W) = zm_L (zs_P W) ∧ zs_P (zm_E (zs_P W)) = zs_P W)) → ∀ (mc' : Int32) (wd' sm' lc' od' sh' ev' : Nat → Int32), post 0 (bc, rc, fc, mc', pO, lO, gn, ln, fA, wd', sm', lc', od', sh', ev') := by
      intro q mc' wd' sm' lc' od' sh' ev'
      have hk : zm_ok (zs_P W) = false := decide_eq_false q
      have h1 := h mc' wd' sm' lc' od' sh' ev' (fun r => by rw [hk] at r; exact absurd r Bool.false_ne_true)
      rw [hk] at h1
      exact h1
    refine pk_le L 2 (fun c => ?_) (fun c => hno (fun q => ?_) _ _ _ _ _ _ _)
    · refine zx_eval hT hs1 hlc (fun ev1 hev => zx_correct hT hlc hev hw (fun wd1 hwd => ?_))
      have hcl := zk_c_le (zd (zk_E loc (zb_ev (zs_P W) loc))) 7
      have hcc : zm_c (zs_P W) = zk_c (zd (zk_E loc (zb_ev (zs_P W) loc))) 7 := by unfold zm_c; rw [hE]
      refine pk_eq _ L (fun e => ?_) (fun e => hno (fun q => ?_) _ _ _ _ _ _ _)
      · refine zx_sums hT hwd (fun sm2 hs2 => ?_)
        by_cases z2 : zs_P (W ^^^ zk_E loc (zb_ev (zs_P W) loc)) = 0
        · rw [if_pos z2]
          have hk : zm_ok (zs_P W) = true := by
            refine decide_eq_true (Or.inr ⟨by omega, by omega, ?_⟩)
            rw [zs_P_lin] at z2
            rw [hE]
            exact (zx_eq0.mp z2).symm
          have h1 := h (nI (zk_c (zd (zk_E loc (zb_ev (zs_P W) loc))) 7)) wd1 sm2 lc1 od1 sh1 ev1 (fun _ => ⟨by rw [hcc], by rw [hE]; exact hwd⟩)
          rw [hk] at h1
          exact br_f (by decide) h1
        · rw [if_neg z2]
          refine br_t rfl (hno (fun q => ?_) _ _ _ _ _ _ _)
          rcases q with q | ⟨_, _, q⟩
          · exact z q
          · apply z2
            rw [zs_P_lin, ← hE, q, Nat.xor_self]
      · rcases q with q | ⟨_, q, _⟩
        · exact z q
        · omega
    · rcases q with q | ⟨q, _⟩
      · exact z q
      · omega
theorem zx_m2 {post : Int32 → SX → Prop} {b : Nat → Bool} {p w : Nat} (hT : zf_T pO lO) (hl : zl_X ln b) (hp : p + 50 ≤ 300) (hw2 : w < 2)
    (h : ∀ (mc' : Int32) (wd' sm' lc' od' sh' ev' : Nat → Int32), (zm_ok (zs_P (zr_W b p w)) = true → mc' = nI (zm_c (zs_P (zr_W b p w))) ∧ zd_A wd' 7 (zr_W b p w ^^^ zm_E (zs_P (zr_W b p w)))) → post (nI (zm_ok (zs_P (zr_W b p w))).toNat) (bc, rc, fc, mc', pO, lO, gn, ln, fA, wd', sm', lc', od', sh', ev')) :
    ∀ m i f (wd : Nat → Int32), i + m = 7 → m < f → (∀ j, j < i → wd j = nI (zr_v b p (2 * j + w))) → wX_mendWord_2 post (nI p) (nI w) bc rc fc mc f (nI i) pO lO gn ln fA wd sm lc od sh ev := by
  intro m
  induction m with
  | zero =>
    intro i f wd hi hf hw
    obtain ⟨f, rfl⟩ : ∃ f', f = f' + 1 := ⟨f - 1, by omega⟩
    obtain rfl : i = 7 := by omega
    exact zx_mtail (W := zr_W b p w) hT (zd_FA (g := fun i => zr_v b p (2 * i + w)) hw (fun j _ => zr_v_lt _ _ _)) h f
  | succ m ih =>
    intro i f wd hi hf hw
    obtain ⟨f, rfl⟩ : ∃ f', f = f' + 1 := ⟨f - 1, by omega⟩
    refine br_f (nI_ge (b := 7) (by omega) (by omega)) (zx_sym p (2 * i + w) hl hp (by omega) rfl (zn_2i i w) ⟨vp_in_nI (by omega) (by decide), ?_⟩)
    rw [nI_clamp (by omega), zn_b (zr_v_lt _ _ _)]
    refine nm_e (nm_r (nI_1 i) (ih (i + 1) f _ (by omega) (by omega) (fun j hj => ?_)))
    by_cases q : j = i
    · rw [q]; exact pk_us
    · rw [pk_un q]; exact hw j (by omega)
theorem zx_mend {post : Int32 → SX → Prop} {x y : Int32} {b : Nat → Bool} (p w : Nat) (hT : zf_T pO lO) (hl : zl_X ln b) (hp : p + 50 ≤ 300) (hw2 : w < 2) (hx : x = nI p) (hy : y = nI w)
    (h : ∀ (mc' : Int32) (wd' sm' lc' od' sh' ev' : Nat → Int32), (zm_ok (zs_P (zr_W b p w)) = true → mc' = nI (zm_c (zs_P (zr_W b p w))) ∧ zd_A wd' 7 (zr_W b p w ^^^ zm_E (zs_P (zr_W b p w)))) → post (nI (zm_ok (zs_P (zr_W b p w))).toNat) (bc, rc, fc, mc', pO, lO, gn, ln, fA, wd', sm', lc', od', sh', ev')) :
    wpX_mendWord post (bc, rc, fc, mc, pO, lO, gn, ln, fA, wd, sm, lc, od, sh, ev) x y := by
  subst hx hy
  exact ⟨8, zx_m2 hT hl hp hw2 h 7 0 8 wd rfl (by omega) (fun j hj => absurd hj (Nat.not_lt_zero j))⟩
end
end
section
/-! the reference's read, tryChange, mend -/
/-- nothing tried before (ik, xy) explains the sums -/
def zy_N (W ik xy : Nat) : Prop := ∀ a c, 8 ≤ c → c < 64 → (a < ik ∨ (a = ik ∧ c < xy)) → (a / 7 < a % 7 → zs_P (W ^^^ zp_E (a / 7) (c / 8) (a % 7) (c % 8)) ≠ 0) ∧ (a = 0 → zs_P (W ^^^ zp_E 6 (c / 8) 0 0) ≠ 0)
theorem zy_N0 {W : Nat} : zy_N W 0 8 := fun a c h1 h2 h3 => by omega
theorem zy_Ns {W ik xy : Nat} (h : zy_N W ik xy) (h1 : ik / 7 < ik % 7 → zs_P (W ^^^ zp_E (ik / 7) (xy / 8) (ik % 7) (xy % 8)) ≠ 0) (h2 : ik = 0 → zs_P (W ^^^ zp_E 6 (xy / 8) 0 0) ≠ 0) : zy_N W ik (xy + 1) := by
  intro a c h8 h64 hh
  by_cases e : a = ik ∧ c = xy
  · obtain ⟨rfl, rfl⟩ := e
    exact ⟨h1, h2⟩
  · exact h a c h8 h64 (by omega)
theorem zy_Nr {W ik : Nat} (h : zy_N W ik 64) : zy_N W (ik + 1) 8 := fun a c h8 h64 hh => h a c h8 h64 (by omega)
theorem zy_Ne {W : Nat} (h : zy_N W 49 8) (h0 : zs_P W ≠ 0) : zm_ok (zs_P W) = false := by
  cases e : zm_ok (zs_P W) with
  | false => rfl
  | true =>
    rcases zm_B e h0 with ⟨i, x, k, y, hik, hk, hx0, hx, hy, hs⟩ | ⟨x, hx0, hx, hs⟩
    · have := (h (7 * i + k) (8 * x + y) (by omega) (by omega) (by omega)).1
      rw [show (7 * i + k) / 7 = i from by omega, show (7 * i + k) % 7 = k from by omega, show (8 * x + y) / 8 = x from by omega, show (8 * x + y) % 8 = y from by omega] at this
      refine absurd ?_ (this hik)
      rw [zs_P_lin, hs, Nat.xor_self]
    · have := (h 0 (8 * x) (by omega) (by omega) (by omega)).2 rfl
      rw [show (8 * x) / 8 = x from by omega] at this
      refine absurd ?_ this
      rw [zs_P_lin, hs, Nat.xor_self]
theorem zy_hit {W i x k y : Nat} (h : zp_chk i x k y = true) (hz : zs_P (W ^^^ zp_E i x k y) = 0) : zm_ok (zs_P W) = true ∧ zm_E (zs_P W) = zp_E i x k y ∧ zm_c (zs_P W) = (if y = 0 then 1 else 2) := by
  rw [zs_P_lin] at hz
  rw [zx_eq0.mp hz]
  exact zp_use h
section
variable {yn yc yf : Int32} {yl yw yp ys : Nat → Int32}
theorem zy_rd1 {post : SY → Prop} {J2 : Int32 → (Nat → Int32) → (Nat → Int32) → (Nat → Int32) → (Nat → Int32) → Prop} {x2 x3 : Int32} {b : Nat → Bool} {p j s k f : Nat} (hl : zl_Y yl b) (hk : k < 3) (hq : p + 8 + 3 * j + k < 300)
    (h : wY_read_21 post J2 (nI p) x2 x3 (nI j) yn yc yf yl yw yp ys f (nI (2 * s + (b (p + 8 + 3 * j + k)).toNat)) (nI (k + 1))) : wY_read_21 post J2 (nI p) x2 x3 (nI j) yn yc yf yl yw yp ys (f + 1) (nI s) (nI k) := by
  refine br_f (nI_ge (b := 3) hk (by omega)) ?_
  rw [zn_ix, nI_clamp (by omega), hl _ hq]
  refine ⟨vp_in_nI hq (by decide), ?_⟩
  cases e : b (p + 8 + 3 * j + k) with
  | false =>
    rw [e] at h
    exact br_t nI_0 (nm_r (zn_2i s 0) (nm_r (nI_1 k) h))
  | true =>
    rw [e] at h
    exact br_f (by decide) (nm_r (zn_2i s 1) (nm_r (nI_1 k) h))
theorem zy_rd2 {post : SY → Prop} {b : Nat → Bool} {p w : Nat} (hl : zl_Y yl b) (hp : p + 50 ≤ 300) (hw2 : w < 2) (h : ∀ yw', zd_A yw' 7 (zr_W b p w) → post (yn, yc, yf, yl, yw', yp, ys)) :
    ∀ m i f (yw : Nat → Int32), i + m = 7 → m < f → (∀ j, j < i → yw j = nI (zr_v b p (2 * j + w))) → wY_read_2 post (nI p) (nI w) yn yc yf f (nI i) yl yw yp ys := by
  intro m
  induction m with
  | zero =>
    intro i f yw hi hf hw
    obtain ⟨f, rfl⟩ : ∃ f', f = f' + 1 := ⟨f - 1, by omega⟩
    obtain rfl : i = 7 := by omega
    exact br_t (nI_le (a := 7) (by omega) (by omega)) (h yw (zd_FA (g := fun i => zr_v b p (2 * i + w)) hw (fun j _ => zr_v_lt _ _ _)))
  | succ m ih =>
    intro i f yw hi hf hw
    obtain ⟨f, rfl⟩ : ∃ f', f = f' + 1 := ⟨f - 1, by omega⟩
    refine br_f (nI_ge (b := 7) (by omega) (by omega)) (nm_r (zn_2i i w) ⟨4, ?_⟩)
    refine zy_rd1 (s := 0) (k := 0) hl (by omega) (by omega) (zy_rd1 (k := 1) hl (by omega) (by omega) (zy_rd1 (k := 2) hl (by omega) (by omega) ?_))
    refine br_t (nI_le (a := 3) (by omega) (by omega)) ⟨vp_in_nI (by omega) (by decide), ?_⟩
    rw [nI_clamp (by omega), zn_scr (by omega), nx_xor]
    refine nm_e (nm_r (nI_1 i) (ih (i + 1) f _ (by omega) (by omega) (fun j hj => ?_)))
    by_cases q : j = i
    · rw [q]; exact pk_us
    · rw [pk_un q]; exact hw j (by omega)
theorem zy_read {post : SY → Prop} {x y : Int32} {b : Nat → Bool} (p w : Nat) (hl : zl_Y yl b) (hp : p + 50 ≤ 300) (hw2 : w < 2) (hx : x = nI p) (hy : y = nI w) (h : ∀ yw', zd_A yw' 7 (zr_W b p w) → post (yn, yc, yf, yl, yw', yp, ys)) : wpY_read post (yn, yc, yf, yl, yw, yp, ys) x y := by
  subst hx hy
  exact ⟨8, zy_rd2 hl hp hw2 h 7 0 8 yw rfl (by omega) (fun j hj => absurd hj (Nat.not_lt_zero j))⟩
theorem zy_try {post : Int32 → SY → Prop} {a1 a2 a3 a4 : Int32} {W : Nat} (i x k y : Nat) (hp : ∀ j, j < 7 → yp j = nI (zf_pw j)) (hw : zd_A yw 7 W) (hi : i < 7) (hk : k < 7) (hik : i ≠ k) (hx0 : x ≠ 0) (hx : x < 8) (hy : y < 8)
    (e1 : a1 = nI i) (e2 : a2 = nI x) (e3 : a3 = nI k) (e4 : a4 = nI y)
    (h1 : zs_P (W ^^^ zp_E i x k y) = 0 → ∀ yw', zd_A yw' 7 (W ^^^ zp_E i x k y) → post 1 (yn, nI (if y = 0 then 1 else 2), yf, yl, yw', yp, ys))
    (h0 : zs_P (W ^^^ zp_E i x k y) ≠ 0 → post 0 (yn, yc, yf, yl, yw, yp, ys)) : wpY_tryChange post (yn, yc, yf, yl, yw, yp, ys) a1 a2 a3 a4 := by
  subst e1 e2 e3 e4
  have hvi : vp_in (nI i) 7 := vp_in_nI hi (by decide)
  have hvk : vp_in (nI k) 7 := vp_in_nI hk (by decide)
  have ci : (nI i).toNatClampNeg = i := nI_clamp (by omega)
  have ck : (nI k).toNatClampNeg = k := nI_clamp (by omega)
  refine ⟨hvi, hvi, nm_r (e' := upd yw i (nI (zd W i ^^^ x))) (by rw [ci, hw i hi, nx_xor]) ⟨hvk, hvk, nm_r (e' := upd (upd yw i (nI (zd W i ^^^ x))) k (nI (zd W k ^^^ y))) (by rw [ck, pk_un (Ne.symm hik), hw k hk, nx_xor]) ?_⟩⟩
  have hd : zd_A (upd (upd yw i (nI (zd W i ^^^ x))) k (nI (zd W k ^^^ y))) 7 (W ^^^ zp_E i x k y) := by
    refine zd_Fc (zd_Fu (zd_Fu hw i _) k _) (fun j hj => ?_)
    rw [zd_xor, zp_E_at hx hy hj]
    unfold zp_d
    by_cases q : j = k
    · rw [if_pos q, if_neg (by omega), if_pos q, q]
    · rw [if_neg q]
      by_cases r : j = i
      · rw [if_pos r, if_pos r, r]
      · rw [if_neg r, if_neg r, if_neg q, Nat.xor_zero]
  refine zy_isCode hp hd ?_
  by_cases z : zs_P (W ^^^ zp_E i x k y) = 0
  · rw [if_pos z]
    have hp1 := h1 z _ hd
    refine br_f (by decide) (br_f (nI_nle (Nat.pos_of_ne_zero hx0) (by omega)) ?_)
    by_cases y0 : y = 0
    · rw [if_pos y0] at hp1
      rw [y0] at hp1 ⊢
      exact br_t (by decide) (nm_e hp1)
    · rw [if_neg y0] at hp1
      exact br_f (nI_nle (Nat.pos_of_ne_zero y0) (by omega)) (nm_e hp1)
  · rw [if_neg z]
    have hr : upd (upd (upd (upd yw i (nI (zd W i ^^^ x))) k (nI (zd W k ^^^ y))) i (nI (zd W i))) k (nI (zd W k)) = yw := by
      funext j
      unfold upd
      by_cases q : j = k
      · rw [if_pos q, q, hw k hk]
      · rw [if_neg q]
        by_cases r : j = i
        · rw [if_pos r, r, hw i hi]
        · rw [if_neg r, if_neg q, if_neg r]
    refine br_t rfl ⟨hvi, hvi, nm_r (e' := upd (upd (upd yw i (nI (zd W i ^^^ x))) k (nI (zd W k ^^^ y))) i (nI (zd W i))) (by rw [ci, pk_un hik, pk_us, nx_xor, Nat.xor_assoc, Nat.xor_self, Nat.xor_zero]) ⟨hvk, hvk, nm_r (e' := yw) ?_ (h0 z)⟩⟩
    rw [ck, pk_un (Ne.symm hik), pk_us, nx_xor, Nat.xor_assoc, Nat.xor_self, Nat.xor_zero]
    exact hr
theorem zy_m65 {post : Int32 → SY → Prop} {J16 J25 : Int32 → Int32 → Int32 → Int32 → (Nat → Int32) → (Nat → Int32) → (Nat → Int32) → (Nat → Int32) → Prop} {W ik xy : Nat} (hp : ∀ j, j < 7 → yp j = nI (zf_pw j)) (hw : zd_A yw 7 W) (h8 : 8 ≤ xy) (h64 : xy < 64) (hik : ik < 49)
    (HP : ∀ i x k y, zp_chk i x k y = true → zs_P (W ^^^ zp_E i x k y) = 0 → ∀ yw', zd_A yw' 7 (W ^^^ zp_E i x k y) → post 1 (yn, nI (if y = 0 then 1 else 2), yf, yl, yw', yp, ys))
    (h : (ik = 0 → zs_P (W ^^^ zp_E 6 (xy / 8) 0 0) ≠ 0) → J25 (nI (xy + 1)) yn yc yf yl yw yp ys) : wY_mend_65 post J16 J25 (nI ik) (nI xy) yn yc yf yl yw yp ys := by
  refine pk_eq ik 0 (fun e => ?_) (fun e => ?_)
  · refine ⟨by decide, zy_try 6 (xy / 8) 0 0 hp hw (by omega) (by omega) (by omega) (by omega) (by omega) (by omega) rfl (pk_div (d := 8) (by omega) (by decide) (by decide)) rfl rfl (fun z yw' hd => ?_) (fun z => ?_)⟩
    · exact br_f (by decide) (HP 6 (xy / 8) 0 0 (zp_all6 (by omega) (by omega)) z yw' hd)
    · exact br_t rfl (nm_r (nI_1 xy) (h (fun _ => z)))
  · exact nm_r (nI_1 xy) (h (fun q => absurd q e))
theorem zy_m25 {post : Int32 → SY → Prop} {J16 : Int32 → Int32 → Int32 → Int32 → (Nat → Int32) → (Nat → Int32) → (Nat → Int32) → (Nat → Int32) → Prop} {W ik : Nat} (hp : ∀ j, j < 7 → yp j = nI (zf_pw j)) (hw : zd_A yw 7 W) (hik : ik < 49)
    (HP : ∀ i x k y, zp_chk i x k y = true → zs_P (W ^^^ zp_E i x k y) = 0 → ∀ yw', zd_A yw' 7 (W ^^^ zp_E i x k y) → post 1 (yn, nI (if y = 0 then 1 else 2), yf, yl, yw', yp, ys))
    (h : zy_N W ik 64 → J16 (nI (ik + 1)) yn yc yf yl yw yp ys) : ∀ m xy f, xy + m = 64 → 8 ≤ xy → m < f → zy_N W ik xy → wY_mend_25 post J16 (nI ik) f (nI xy) yn yc yf yl yw yp ys := by
  intro m
  induction m with
  | zero =>
    intro xy f hx h8 hf hN
    obtain ⟨f, rfl⟩ : ∃ f', f = f' + 1 := ⟨f - 1, by omega⟩
    obtain rfl : xy = 64 := by omega
    exact br_t (nI_le (a := 64) (by omega) (by omega)) (nm_r (nI_1 ik) (h hN))
  | succ m ih =>
    intro xy f hx h8 hf hN
    obtain ⟨f, rfl⟩ : ∃ f', f = f' + 1 := ⟨f - 1, by omega⟩
    have d7 : nI ik / 7 = nI (ik / 7) := pk_div (d := 7) (by omega) (by decide) (by decide)
    have r7 : nI ik - nI ik / 7 * 7 = nI (ik % 7) := pk_rem (d := 7) (by omega) (by decide) (by decide)
    have d8 : nI xy / 8 = nI (xy / 8) := pk_div (d := 8) (by omega) (by decide) (by decide)
    have r8 : nI xy - nI xy / 8 * 8 = nI (xy % 8) := pk_rem (d := 8) (by omega) (by decide) (by decide)
    refine br_f (nI_ge (b := 64) (by omega) (by omega)) ⟨by decide, by decide, ?_⟩
    refine pk_le (ik % 7) (ik / 7) (fun c => ?_) (fun c => ?_) r7 d7
    · exact zy_m65 hp hw h8 (by omega) hik HP (fun h6 => ih (xy + 1) f (by omega) (by omega) (by omega) (zy_Ns hN (fun q => absurd q (by omega)) h6))
    · refine ⟨by decide, by decide, by decide, by decide, zy_try (ik / 7) (xy / 8) (ik % 7) (xy % 8) hp hw (by omega) (by omega) (by omega) (by omega) (by omega) (by omega) d7 d8 r7 r8 (fun z yw' hd => ?_) (fun z => ?_)⟩
      · exact br_f (by decide) (HP _ _ _ _ (zp_all (by omega) c (by omega) (by omega) (by omega)) z yw' hd)
      · exact br_t rfl (zy_m65 hp hw h8 (by omega) hik HP (fun h6 => ih (xy + 1) f (by omega) (by omega) (by omega) (zy_Ns hN (fun _ => z) h6)))
theorem zy_m16 {post : Int32 → SY → Prop} {W : Nat} (hp : ∀ j, j < 7 → yp j = nI (zf_pw j)) (hw : zd_A yw 7 W)
    (HP : ∀ i x k y, zp_chk i x k y = true → zs_P (W ^^^ zp_E i x k y) = 0 → ∀ yw', zd_A yw' 7 (W ^^^ zp_E i x k y) → post 1 (yn, nI (if y = 0 then 1 else 2), yf, yl, yw', yp, ys))
    (h : zy_N W 49 8 → post 0 (yn, yc, yf, yl, yw, yp, ys)) : ∀ m ik f, ik + m = 49 → m < f → zy_N W ik 8 → wY_mend_16 post f (nI ik) yn yc yf yl yw yp ys := by
  intro m
  induction m with
  | zero =>
    intro ik f hx hf hN
    obtain ⟨f, rfl⟩ : ∃ f', f = f' + 1 := ⟨f - 1, by omega⟩
    obtain rfl : ik = 49 := by omega
    exact br_t (nI_le (a := 49) (by omega) (by omega)) (h hN)
  | succ m ih =>
    intro ik f hx hf hN
    obtain ⟨f, rfl⟩ : ∃ f', f = f' + 1 := ⟨f - 1, by omega⟩
    refine br_f (nI_ge (b := 49) (by omega) (by omega)) ⟨57, ?_⟩
    exact zy_m25 hp hw (by omega) HP (fun hN' => ih (ik + 1) f (by omega) (by omega) (zy_Nr hN')) 56 8 57 rfl (by omega) (by omega) hN
theorem zy_mend {post : Int32 → SY → Prop} {W : Nat} (hp : ∀ j, j < 7 → yp j = nI (zf_pw j)) (hw : zd_A yw 7 W)
    (h : ∀ (yc' : Int32) (yw' : Nat → Int32) (W' : Nat), zd_A yw' 7 W' → (zm_ok (zs_P W) = true → yc' = nI (zm_c (zs_P W)) ∧ W' = W ^^^ zm_E (zs_P W)) → (zm_ok (zs_P W) = false → yc' = 0) → post (nI (zm_ok (zs_P W)).toNat) (yn, yc', yf, yl, yw', yp, ys)) :
    wpY_mend post (yn, yc, yf, yl, yw, yp, ys) := by
  refine zy_isCode hp hw ?_
  by_cases z : zs_P W = 0
  · rw [if_pos z]
    have hk : zm_ok (zs_P W) = true := decide_eq_true (Or.inl z)
    have h1 := h 0 yw W hw (fun _ => by
      rw [z]
      exact ⟨rfl, by rw [show zm_E 0 = 0 from rfl, Nat.xor_zero]⟩) (fun _ => rfl)
    rw [hk] at h1
    exact br_f (by decide) h1
  · rw [if_neg z]
    refine br_t rfl ⟨50, zy_m16 (W := W) hp hw (fun i x k y hc hz yw' hd => ?_) (fun hN => ?_) 49 0 50 rfl (by omega) zy_N0⟩
    · obtain ⟨k1, k2, k3⟩ := zy_hit hc hz
      have h1 := h (nI (if y = 0 then 1 else 2)) yw' _ hd (fun _ => ⟨by rw [k3], by rw [k2]⟩) (fun q => by rw [k1] at q; exact absurd q.symm Bool.false_ne_true)
      rw [k1] at h1
      exact h1
    · have hk := zy_Ne hN z
      have h1 := h 0 yw W hw (fun q => by rw [hk] at q; exact absurd q Bool.false_ne_true) (fun _ => rfl)
      rw [hk] at h1
      exact h1
end
end
section
/-! a frame's message, counts: both sides -/
theorem zn_or (a b : Nat) : nI a ||| nI b = nI (a ||| b) := by
  apply Int32.toBitVec_inj.1
  show BitVec.ofNat 32 a ||| BitVec.ofNat 32 b = BitVec.ofNat 32 (a ||| b)
  apply BitVec.eq_of_getLsbD_eq
  intro i hi
  simp [hi]
def zg_a (acc W w : Nat) : Nat → Nat
  | 0 => acc
  | i + 1 => zg_a acc W w i ||| zd W (4 + i) * 2 ^ (15 - 6 * i - 3 * w)
theorem zg_t (W i w : Nat) : zd W (4 + i) * 2 ^ (15 - 6 * i - 3 * w) < 2 ^ 18 := by
  have h1 := zd_lt W (4 + i)
  have h2 : 2 ^ (15 - 6 * i - 3 * w) ≤ 2 ^ 15 := Nat.pow_le_pow_right (by decide) (by omega)
  have h3 : zd W (4 + i) * 2 ^ (15 - 6 * i - 3 * w) ≤ 7 * 2 ^ 15 := Nat.mul_le_mul (by omega) h2
  exact Nat.lt_of_le_of_lt h3 (by decide)
theorem zg_a_lt {acc W w : Nat} (h : acc < 2 ^ 18) : ∀ i, zg_a acc W w i < 2 ^ 18 := by
  intro i
  induction i with
  | zero => exact h
  | succ i ih => exact Nat.or_lt_two_pow ih (zg_t W i w)
theorem zg_shY : ∀ i, i < 3 → ∀ w, w < 2 → ((((15 - (6 * nI i)) - (3 * nI w)) &&& 31).toBitVec.smod 32).toNat = 15 - 6 * i - 3 * w := by decide +kernel
theorem zg_shX : ∀ i, i < 3 → ∀ w, w < 2 → (((3 * ((5 - (2 * nI i)) - nI w)) &&& 31).toBitVec.smod 32).toNat = 15 - 6 * i - 3 * w := by decide +kernel
def zg_S (b : Nat → Bool) (p w : Nat) : Nat := zs_P (zr_W b p w)
def zg_M (b : Nat → Bool) (p w : Nat) : Nat := zr_W b p w ^^^ zm_E (zg_S b p w)
def zg_ok (b : Nat → Bool) (p : Nat) : Bool := zm_ok (zg_S b p 0) && zm_ok (zg_S b p 1)
def zg_val (b : Nat → Bool) (p : Nat) : Nat := zg_a (zg_a 0 (zg_M b p 0) 0 3) (zg_M b p 1) 1 3
def zg_cn (b : Nat → Bool) (p w : Nat) : Nat := if zm_ok (zg_S b p w) = true then zm_c (zg_S b p w) else 0
def zg_r (b : Nat → Bool) (p : Nat) : Int32 := if zg_ok b p = true then nI (zg_val b p) else -3
theorem zg_val_lt (b : Nat → Bool) (p : Nat) : zg_val b p < 2 ^ 18 := zg_a_lt (zg_a_lt (by decide) 3) 3
theorem zg_r3 (b : Nat → Bool) (p : Nat) : zg_r b p = -3 ↔ zg_ok b p = false := by
  unfold zg_r
  have hv := zg_val_lt b p
  cases e : zg_ok b p with
  | false => exact ⟨fun _ => rfl, fun _ => rfl⟩
  | true =>
    rw [if_pos rfl]
    refine ⟨fun h => ?_, fun h => absurd h.symm Bool.false_ne_true⟩
    have h2 := nI_toInt (n := zg_val b p) (by omega)
    rw [h, show (-3 : Int32).toInt = -3 from by decide] at h2
    omega
def zg_n (fs : Nat → Nat) (b : Nat → Bool) : Nat → Nat
  | 0 => 0
  | k + 1 => if zg_ok b (fs k) = true then zg_n fs b k + 1 else zg_n fs b k
section
variable {yn yc yf : Int32} {yl yw yp ys : Nat → Int32}
theorem zy_d35 {post : Int32 → SY → Prop} {J10 : Int32 → Int32 → Int32 → Int32 → Int32 → Int32 → Int32 → (Nat → Int32) → (Nat → Int32) → (Nat → Int32) → (Nat → Int32) → Prop} {x1 x3 x4 : Int32} {acc W w : Nat} (hw : zd_A yw 7 W) (hw2 : w < 2)
    (h : J10 (nI (zg_a acc W w 3)) x3 (x4 + yc) (nI (w + 1)) yn yc yf yl yw yp ys) : ∀ m i f, i + m = 3 → m < f → wY_decode_35 post J10 x1 x3 x4 (nI w) yn yc yf yl yw yp ys f (nI (zg_a acc W w i)) (nI i) := by
  intro m
  induction m with
  | zero =>
    intro i f hi hf
    obtain ⟨f, rfl⟩ : ∃ f', f = f' + 1 := ⟨f - 1, by omega⟩
    obtain rfl : i = 3 := by omega
    exact br_t (nI_le (a := 3) (by omega) (by omega)) (nm_e (nm_r (nI_1 w) h))
  | succ m ih =>
    intro i f hi hf
    obtain ⟨f, rfl⟩ : ∃ f', f = f' + 1 := ⟨f - 1, by omega⟩
    have ht := zg_t W i w
    refine br_f (nI_ge (b := 3) (by omega) (by omega)) ?_
    rw [show (4 : Int32) + nI i = nI (4 + i) from nI_add 4 i, nI_clamp (by omega), hw (4 + i) (by omega), pk_shlN _ _ (zg_shY i (by omega) w hw2) (by omega), zn_or]
    exact ⟨vp_in_nI (by omega) (by decide), nm_e (nm_r (nI_1 i) (ih (i + 1) f (by omega) (by omega)))⟩
theorem zy_d10 {post : Int32 → SY → Prop} {b : Nat → Bool} {p w acc tot f : Nat} {x3 : Int32} (hp : ∀ j, j < 7 → yp j = nI (zf_pw j)) (hl : zl_Y yl b) (hq : p + 50 ≤ 300) (hw2 : w < 2)
    (h : ∀ (yc' : Int32) (yw' : Nat → Int32) (acc' : Nat), (zm_ok (zg_S b p w) = true → acc' = zg_a acc (zg_M b p w) w 3) → wY_decode_10 post (nI p) f (nI acc') (if zm_ok (zg_S b p w) = true then x3 else 1) (nI (tot + zg_cn b p w)) (nI (w + 1)) yn yc' yf yl yw' yp ys) :
    wY_decode_10 post (nI p) (f + 1) (nI acc) x3 (nI tot) (nI w) yn yc yf yl yw yp ys := by
  refine br_f (nI_ge (b := 2) hw2 (by omega)) (zy_read p w hl hq hw2 rfl rfl (fun yw1 h1 => zy_mend hp h1 (fun yc2 yw2 W2 h2 hk1 hk0 => ?_)))
  have hr := h yc2 yw2 (zg_a acc W2 w 3) (fun q => by rw [(hk1 q).2]; rfl)
  cases e : zm_ok (zg_S b p w) with
  | false =>
    have e' : zm_ok (zs_P (zr_W b p w)) = false := e
    rw [e']
    have hc : zg_cn b p w = 0 := by unfold zg_cn; rw [e]; rfl
    rw [e, hc, if_neg Bool.false_ne_true] at hr
    refine br_t nI_0 ⟨4, zy_d35 h2 hw2 ?_ 3 0 4 rfl (by omega)⟩
    rw [hk0 e', Int32.add_zero]
    rw [hk0 e'] at hr
    exact hr
  | true =>
    have e' : zm_ok (zs_P (zr_W b p w)) = true := e
    rw [e']
    have hc : zg_cn b p w = zm_c (zg_S b p w) := by unfold zg_cn; rw [if_pos e]
    rw [e, if_pos rfl] at hr
    refine br_f (by decide) ⟨4, zy_d35 h2 hw2 ?_ 3 0 4 rfl (by omega)⟩
    rw [show nI tot + yc2 = nI (tot + zg_cn b p w) from by rw [(hk1 e').1, nI_add, hc]; rfl]
    exact hr
theorem zy_dec {post : Int32 → SY → Prop} {x : Int32} {b : Nat → Bool} (p : Nat) (hp : ∀ j, j < 7 → yp j = nI (zf_pw j)) (hl : zl_Y yl b) (hq : p + 50 ≤ 300) (hx : x = nI p)
    (h : ∀ (yw' : Nat → Int32), post (zg_r b p) (yn, nI (zg_cn b p 0 + zg_cn b p 1), yf, yl, yw', yp, ys)) : wpY_decode post (yn, yc, yf, yl, yw, yp, ys) x := by
  subst hx
  refine ⟨3, zy_d10 (acc := 0) (tot := 0) (w := 0) hp hl hq (by omega) (fun yc1 yw1 acc1 h1 => zy_d10 (w := 1) hp hl hq (by omega) (fun yc2 yw2 acc2 h2 => br_t (nI_le (a := 2) (by omega) (by omega)) ?_))⟩
  have h3 := h yw2
  unfold zg_r zg_ok zg_val at h3
  rw [Nat.zero_add]
  cases e0 : zm_ok (zg_S b p 0) with
  | false =>
    rw [e0, Bool.false_and, if_neg Bool.false_ne_true] at h3
    rw [if_neg Bool.false_ne_true]
    cases e1 : zm_ok (zg_S b p 1) with
    | false => rw [if_neg Bool.false_ne_true]; exact br_f (by decide) h3
    | true => rw [if_pos rfl]; exact br_f (by decide) h3
  | true =>
    rw [if_pos rfl]
    rw [e0, Bool.true_and] at h3
    cases e1 : zm_ok (zg_S b p 1) with
    | false =>
      rw [e1, if_neg Bool.false_ne_true] at h3
      rw [if_neg Bool.false_ne_true]
      exact br_f (by decide) h3
    | true =>
      rw [e1, if_pos rfl] at h3
      rw [if_pos rfl, h2 e1, h1 e0]
      exact br_t rfl h3
theorem zy_good8 {post : Int32 → SY → Prop} {b : Nat → Bool} {fs : Nat → Nat} {m : Nat} (hp : ∀ j, j < 7 → yp j = nI (zf_pw j)) (hl : zl_Y yl b) (hm : m ≤ 6) (hf : ∀ k, k < m → ys k = nI (fs k) ∧ fs k + 50 ≤ 300)
    (h : ∀ (yc' : Int32) (yw' : Nat → Int32), post (nI (zg_n fs b m)) (yn, yc', nI m, yl, yw', yp, ys)) :
    ∀ d k f (yc : Int32) (yw : Nat → Int32), k + d = m → d < f → wY_good_8 post f (nI (zg_n fs b k)) (nI k) yn yc (nI m) yl yw yp ys := by
  intro d
  induction d with
  | zero =>
    intro k f yc yw hk hf'
    obtain ⟨f, rfl⟩ : ∃ f', f = f' + 1 := ⟨f - 1, by omega⟩
    obtain rfl : k = m := by omega
    exact br_t (nI_le (by omega) (by omega)) (h yc yw)
  | succ d ih =>
    intro k f yc yw hk hf'
    obtain ⟨f, rfl⟩ : ∃ f', f = f' + 1 := ⟨f - 1, by omega⟩
    obtain ⟨h1, h2⟩ := hf k (by omega)
    refine br_f (nI_ge (by omega) (by omega)) ⟨vp_in_nI (by omega) (by decide), ?_⟩
    rw [nI_clamp (by omega)]
    refine zy_dec (fs k) hp hl h2 h1 (fun yw' => ?_)
    have hr := ih (k + 1) f (nI (zg_cn b (fs k) 0 + zg_cn b (fs k) 1)) yw' (by omega) (by omega)
    unfold zg_n at hr
    cases e : zg_ok b (fs k) with
    | false =>
      rw [e, if_neg Bool.false_ne_true] at hr
      exact br_t ((zg_r3 _ _).mpr e) (nm_r (nI_1 k) hr)
    | true =>
      rw [e, if_pos rfl] at hr
      refine br_f (fun q => ?_) (nm_r (nI_1 _) (nm_r (nI_1 k) hr))
      rw [(zg_r3 _ _).mp q] at e
      exact absurd e Bool.false_ne_true
end
section
variable {bc rc fc mc : Int32} {pO lO gn : Nat → Int32} {ln : Nat → Int64} {fA wd sm lc od sh ev : Nat → Int32}
theorem zx_g47 {post : Int32 → SX → Prop} {J22 : Int32 → Int32 → Int32 → Int32 → Int32 → Int32 → (Nat → Int32) → (Nat → Int32) → (Nat → Int32) → (Nat → Int64) → (Nat → Int32) → (Nat → Int32) → (Nat → Int32) → (Nat → Int32) → (Nat → Int32) → (Nat → Int32) → (Nat → Int32) → Prop}
    {x1 : Int32} {acc W w : Nat} (hw : zd_A wd 7 W) (hw2 : w < 2) (h : J22 (nI (zg_a acc W w 3)) (nI (w + 1)) bc rc fc mc pO lO gn ln fA wd sm lc od sh ev) :
    ∀ m i f, i + m = 3 → m < f → wX_message_47 post J22 x1 (nI w) bc rc fc mc pO lO gn ln fA wd sm lc od sh ev f (nI (zg_a acc W w i)) (nI i) := by
  intro m
  induction m with
  | zero =>
    intro i f hi hf
    obtain ⟨f, rfl⟩ : ∃ f', f = f' + 1 := ⟨f - 1, by omega⟩
    obtain rfl : i = 3 := by omega
    exact br_t (nI_le (a := 3) (by omega) (by omega)) (nm_r (nI_1 w) h)
  | succ m ih =>
    intro i f hi hf
    obtain ⟨f, rfl⟩ : ∃ f', f = f' + 1 := ⟨f - 1, by omega⟩
    have ht := zg_t W i w
    refine br_f (nI_ge (b := 3) (by omega) (by omega)) ?_
    rw [show (4 : Int32) + nI i = nI (4 + i) from nI_add 4 i, nI_clamp (by omega), hw (4 + i) (by omega), pk_shlN _ _ (zg_shX i (by omega) w hw2) (by omega), zn_or]
    exact ⟨vp_in_nI (by omega) (by decide), nm_e (nm_r (nI_1 i) (ih (i + 1) f (by omega) (by omega)))⟩
theorem zx_g22 {post : Int32 → SX → Prop} {b : Nat → Bool} {k p w acc f : Nat} (hT : zf_T pO lO) (hl : zl_X ln b) (hk : k < 6) (hf : fA k = nI p) (hq : p + 50 ≤ 300) (hw2 : w < 2)
    (h1 : ∀ (mc : Int32) (wd sm lc od sh ev : Nat → Int32), zm_ok (zg_S b p w) = true → wX_message_22 post (nI k) f (nI (zg_a acc (zg_M b p w) w 3)) (nI (w + 1)) bc rc fc mc pO lO gn ln fA wd sm lc od sh ev)
    (h0 : ∀ (mc : Int32) (wd sm lc od sh ev : Nat → Int32), zm_ok (zg_S b p w) = false → post (-3) (bc, rc, fc, mc, pO, lO, gn, ln, fA, wd, sm, lc, od, sh, ev)) :
    wX_message_22 post (nI k) (f + 1) (nI acc) (nI w) bc rc fc mc pO lO gn ln fA wd sm lc od sh ev := by
  refine br_f (nI_ge (b := 2) hw2 (by omega)) ⟨vp_in_nI hk (by decide), ?_⟩
  rw [nI_clamp (by omega)]
  refine zx_mend p w hT hl hq hw2 hf rfl (fun mc' wd' sm' lc' od' sh' ev' hok => ?_)
  cases e : zm_ok (zg_S b p w) with
  | false =>
    rw [show zm_ok (zs_P (zr_W b p w)) = false from e]
    exact br_t nI_0 (h0 _ _ _ _ _ _ _ e)
  | true =>
    rw [show zm_ok (zs_P (zr_W b p w)) = true from e]
    exact br_f (by decide) ⟨4, zx_g47 (hok e).2 hw2 (h1 _ _ _ _ _ _ _ e) 3 0 4 rfl (by omega)⟩
theorem zx_msg {post : Int32 → SX → Prop} {b : Nat → Bool} {k p : Nat} (hT : zf_T pO lO) (hl : zl_X ln b) (hk : k < 6) (hf : fA k = nI p) (hq : p + 50 ≤ 300)
    (h : ∀ (mc : Int32) (wd sm lc od sh ev : Nat → Int32), post (zg_r b p) (bc, rc, fc, mc, pO, lO, gn, ln, fA, wd, sm, lc, od, sh, ev)) : wX_message_22 post (nI k) 3 0 0 bc rc fc mc pO lO gn ln fA wd sm lc od sh ev := by
  unfold zg_r zg_ok at h
  refine zx_g22 (acc := 0) (w := 0) hT hl hk hf hq (by omega) (fun mc wd sm lc od sh ev e0 => ?_) (fun mc wd sm lc od sh ev e0 => ?_)
  · refine zx_g22 (w := 1) hT hl hk hf hq (by omega) (fun mc wd sm lc od sh ev e1 => ?_) (fun mc wd sm lc od sh ev e1 => ?_)
    · have h2 := h mc wd sm lc od sh ev
      rw [e0, e1, Bool.true_and, if_pos rfl] at h2
      exact br_t (nI_le (a := 2) (by omega) (by omega)) h2
    · have h2 := h mc wd sm lc od sh ev
      rw [e0, e1, Bool.true_and, if_neg Bool.false_ne_true] at h2
      exact h2
  · have h2 := h mc wd sm lc od sh ev
    rw [e0, Bool.false_and, if_neg Bool.false_ne_true] at h2
    exact h2
theorem zx_c22 {post : Int32 → SX → Prop} {b : Nat → Bool} {k p w tot f : Nat} (hT : zf_T pO lO) (hl : zl_X ln b) (hk : k < 6) (hf : fA k = nI p) (hq : p + 50 ≤ 300) (hw2 : w < 2)
    (h : ∀ (mc : Int32) (wd sm lc od sh ev : Nat → Int32), wX_mended_22 post (nI k) f (nI (tot + zg_cn b p w)) (nI (w + 1)) bc rc fc mc pO lO gn ln fA wd sm lc od sh ev) :
    wX_mended_22 post (nI k) (f + 1) (nI tot) (nI w) bc rc fc mc pO lO gn ln fA wd sm lc od sh ev := by
  refine br_f (nI_ge (b := 2) hw2 (by omega)) ⟨vp_in_nI hk (by decide), ?_⟩
  rw [nI_clamp (by omega)]
  refine zx_mend p w hT hl hq hw2 hf rfl (fun mc' wd' sm' lc' od' sh' ev' hok => ?_)
  unfold zg_cn at h
  cases e : zm_ok (zg_S b p w) with
  | false =>
    rw [show zm_ok (zs_P (zr_W b p w)) = false from e]
    rw [e, if_neg Bool.false_ne_true] at h
    exact br_t nI_0 (nm_r (nI_1 w) (h _ _ _ _ _ _ _))
  | true =>
    rw [show zm_ok (zs_P (zr_W b p w)) = true from e]
    rw [e, if_pos rfl] at h
    refine br_f (by decide) (nm_r (e' := nI (tot + zm_c (zg_S b p w))) (by rw [(hok e).1, nI_add]; rfl) (nm_r (nI_1 w) (h _ _ _ _ _ _ _)))
theorem zx_cnt {post : Int32 → SX → Prop} {b : Nat → Bool} {k p : Nat} (hT : zf_T pO lO) (hl : zl_X ln b) (hk : k < 6) (hf : fA k = nI p) (hq : p + 50 ≤ 300)
    (h : ∀ (mc : Int32) (wd sm lc od sh ev : Nat → Int32), post (nI (zg_cn b p 0 + zg_cn b p 1)) (bc, rc, fc, mc, pO, lO, gn, ln, fA, wd, sm, lc, od, sh, ev)) : wX_mended_22 post (nI k) 3 0 0 bc rc fc mc pO lO gn ln fA wd sm lc od sh ev := by
  refine zx_c22 (tot := 0) (w := 0) hT hl hk hf hq (by omega) (fun mc wd sm lc od sh ev => ?_)
  refine zx_c22 (w := 1) hT hl hk hf hq (by omega) (fun mc wd sm lc od sh ev => ?_)
  rw [Nat.zero_add]
  exact br_t (nI_le (a := 2) (by omega) (by omega)) (h mc wd sm lc od sh ev)
theorem zx_good8 {post : Int32 → SX → Prop} {b : Nat → Bool} {fs : Nat → Nat} {m : Nat} (hT : zf_T pO lO) (hl : zl_X ln b) (hm : m ≤ 6) (hf : ∀ k, k < m → fA k = nI (fs k) ∧ fs k + 50 ≤ 300)
    (h : ∀ (mc : Int32) (wd sm lc od sh ev : Nat → Int32), post (nI (zg_n fs b m)) (bc, rc, nI m, mc, pO, lO, gn, ln, fA, wd, sm, lc, od, sh, ev)) :
    ∀ d k f (mc : Int32) (wd sm lc od sh ev : Nat → Int32), k + d = m → d < f → wX_good_8 post f (nI (zg_n fs b k)) (nI k) bc rc (nI m) mc pO lO gn ln fA wd sm lc od sh ev := by
  intro d
  induction d with
  | zero =>
    intro k f mc wd sm lc od sh ev hk hf'
    obtain ⟨f, rfl⟩ : ∃ f', f = f' + 1 := ⟨f - 1, by omega⟩
    obtain rfl : k = m := by omega
    exact br_t (nI_le (by omega) (by omega)) (h mc wd sm lc od sh ev)
  | succ d ih =>
    intro k f mc wd sm lc od sh ev hk hf'
    obtain ⟨f, rfl⟩ : ∃ f', f = f' + 1 := ⟨f - 1, by omega⟩
    obtain ⟨h1, h2⟩ := hf k (by omega)
    have hv : vp_in (nI k) 6 := vp_in_nI (by omega) (by decide)
    have ih' := fun mc wd sm lc od sh ev => ih (k + 1) f mc wd sm lc od sh ev (by omega) (by omega)
    unfold zg_n zg_ok at ih'
    refine br_f (nI_ge (by omega) (by omega)) ⟨hv, ?_⟩
    rw [nI_clamp (by omega)]
    refine zx_mend (fs k) 0 hT hl h2 (by omega) h1 rfl (fun mc' wd' sm' lc' od' sh' ev' hok => ?_)
    cases e : zm_ok (zg_S b (fs k) 0) with
    | false =>
      rw [show zm_ok (zs_P (zr_W b (fs k) 0)) = false from e]
      rw [e, Bool.false_and, if_neg Bool.false_ne_true] at ih'
      exact br_t nI_0 (nm_r (nI_1 k) (ih' _ _ _ _ _ _ _))
    | true =>
      rw [show zm_ok (zs_P (zr_W b (fs k) 0)) = true from e]
      rw [e, Bool.true_and] at ih'
      refine br_f (by decide) ⟨hv, zx_mend (fs k) 1 hT hl h2 (by omega) h1 rfl (fun mc' wd' sm' lc' od' sh' ev' hok => ?_)⟩
      cases e1 : zm_ok (zg_S b (fs k) 1) with
      | false =>
        rw [show zm_ok (zs_P (zr_W b (fs k) 1)) = false from e1]
        rw [e1, if_neg Bool.false_ne_true] at ih'
        exact br_t nI_0 (nm_r (nI_1 k) (ih' _ _ _ _ _ _ _))
      | true =>
        rw [show zm_ok (zs_P (zr_W b (fs k) 1)) = true from e1]
        rw [e1, if_pos rfl] at ih'
        exact br_f (by decide) (nm_r (nI_1 _) (nm_r (nI_1 k) (ih' _ _ _ _ _ _ _)))
end
end
section
/-! sending: the class -/
def zc_M (msg w : Nat) : Nat := zd_pk (fun m => msg / 2 ^ (15 - 6 * m - 3 * w) % 8) 3
theorem zc_M_at (msg w : Nat) {m : Nat} (h : m < 3) : zd (zc_M msg w) m = msg / 2 ^ (15 - 6 * m - 3 * w) % 8 := zd_pk_at 3 (fun _ _ => Nat.mod_lt _ (by decide)) m h
theorem zc_M_lt (msg w : Nat) : zc_M msg w < 512 := zd_pk_lt 3 (fun _ _ => Nat.mod_lt _ (by decide))
def zc_run (s : Nat → Nat) : Nat → Nat → Nat
  | 0, R => R
  | t + 1, R => zc_run s t (zc_st R (s t))
theorem zc_W_at {wd : Nat → Int32} {M : Nat} (h1 : zd_A wd 4 (zc_R M)) (h2 : ∀ m, m < 3 → wd (4 + m) = nI (zd M m)) : zd_A wd 7 (zc_W M) := by
  intro j hj
  show wd j = nI (zd (zc_W M) j)
  unfold zc_W
  by_cases q : j < 4
  · rw [zd_lo M (zc_R_lt M) q]; exact h1 j q
  · obtain ⟨d, rfl⟩ : ∃ d, j = 4 + d := ⟨j - 4, by omega⟩
    rw [zd_hi M (zc_R_lt M)]; exact h2 d (by omega)
def zl_bt (v k : Nat) : Bool := decide (v / 2 ^ (2 - k) % 2 = 1)
theorem zn_bt : ∀ v, v < 8 → ∀ k, k < 3 → (nI v >>> ((2 - nI k) &&& 31)) &&& 1 = nI (zl_bt v k).toNat := by decide +kernel
def zl_mk (k : Nat) : Bool := decide (k = 0) || decide (k = 2) || decide (k = 3) || decide (k = 6)
theorem zn_mk : ∀ k, k < 8 → ((178 : Int32) >>> ((7 - nI k) &&& 31)) &&& 1 = nI (zl_mk k).toNat := by decide +kernel
def zl_ma (s : Nat) (b : Nat → Bool) : Nat → Nat → Bool
  | 0 => b
  | k + 1 => zl_u (zl_ma s b k) (s + k) (zl_mk k)
def zl_ly (W w s : Nat) (b : Nat → Bool) : Nat → Nat → Bool
  | 0 => b
  | t + 1 => zl_u (zl_ly W w s b t) (s + 8 + 3 * (2 * (t / 3) + w) + t % 3) (zl_bt (zd W (t / 3) ^^^ zr_s (2 * (t / 3) + w)) (t % 3))
def zl_send (msg s : Nat) (b : Nat → Bool) : Nat → Bool := zl_ly (zc_W (zc_M msg 1)) 1 s (zl_ly (zc_W (zc_M msg 0)) 0 s (zl_ma s b 8) 21) 21
theorem zr_s_lt (j : Nat) : zr_s j < 8 := Nat.mod_lt _ (by decide)
section
variable {bc rc fc mc : Int32} {pO lO gn : Nat → Int32} {ln : Nat → Int64} {fA wd sm lc od sh ev : Nat → Int32}
theorem zx_w67 {post : SX → Prop} {J22 : Int32 → (Nat → Int32) → (Nat → Int32) → (Nat → Int32) → (Nat → Int64) → (Nat → Int32) → (Nat → Int32) → (Nat → Int32) → (Nat → Int32) → (Nat → Int32) → (Nat → Int32) → (Nat → Int32) → Prop}
    {x1 x2 x3 : Int32} {R bk : Nat} {w0 : Nat → Int32} (hT : zf_T pO lO) (hG : zd_A gn 5 zc_G) (hb : bk < 8)
    (h : ∀ wd', zd_F wd' 4 (zc_d R bk) → (∀ j, 4 ≤ j → wd' j = w0 j) → J22 (x3 + (-1)) pO lO gn ln fA wd' sm lc od sh ev) :
    ∀ i f (wd : Nat → Int32), i ≤ 3 → i < f → zd_F wd 4 (fun j => if i < j then zc_d R bk j else zd R j) → (∀ j, 4 ≤ j → wd j = w0 j) → wX_code_67 post J22 x1 x2 x3 (nI bk) bc rc fc mc f (nI i) pO lO gn ln fA wd sm lc od sh ev := by
  intro i
  induction i with
  | zero =>
    intro f wd hi hf hw ho
    obtain ⟨f, rfl⟩ : ∃ f', f = f' + 1 := ⟨f - 1, by omega⟩
    refine br_t (by decide) ?_
    rw [hG 0 (by omega)]
    refine zx_prod _ _ hT hb (zd_lt _ _) rfl rfl ?_
    rw [zn_b (zf_gm_lt _ _)]
    refine nm_e (nm_e (h _ (zd_Fc (zd_Fu hw 0 _) (fun j hj => ?_)) (fun j hj => ?_)))
    · by_cases q : j = 0
      · rw [if_pos q, q]; rfl
      · rw [if_neg q, if_pos (by omega)]
    · rw [pk_un (by omega)]; exact ho j hj
  | succ i ih =>
    intro f wd hi hf hw ho
    obtain ⟨f, rfl⟩ : ∃ f', f = f' + 1 := ⟨f - 1, by omega⟩
    have hwi : wd i = nI (zd R i) := by rw [hw i (by omega)]; show nI (if i + 1 < i then _ else _) = _; rw [if_neg (by omega)]
    refine br_f (nI_nle (by omega) (by omega)) ⟨vp_in_nI (by omega) (by decide), ?_⟩
    rw [nI_pred, nI_clamp (n := i + 1) (by omega), hG (i + 1) (by omega), nI_clamp (n := i) (by omega), hwi]
    refine zx_prod _ _ hT hb (zd_lt _ _) rfl rfl ⟨vp_in_nI (by omega) (by decide), vp_in_nI (by omega) (by decide), ?_⟩
    rw [nx_xor, zn_b (zf_x8 (zd_lt _ _) (zf_gm_lt _ _))]
    refine nm_e (nm_r (pk_m1 i) (ih f _ (by omega) (by omega) (zd_Fc (zd_Fu hw (i + 1) _) (fun j hj => ?_)) (fun j hj => ?_)))
    · by_cases q : j = i + 1
      · rw [if_pos q, if_pos (by omega), q]; unfold zc_d; rw [if_neg (by omega)]; rfl
      · rw [if_neg q]
        by_cases r : i < j
        · rw [if_pos r, if_pos (by omega)]
        · rw [if_neg r, if_neg (by omega)]
    · rw [pk_un (by omega)]; exact ho j hj
theorem zx_w22 {post : SX → Prop} {msg w : Nat} (hT : zf_T pO lO) (hG : zd_A gn 5 zc_G) (hmsg : msg < 2 ^ 31) (hw2 : w < 2) (h : ∀ wd', zd_A wd' 7 (zc_W (zc_M msg w)) → post (bc, rc, fc, mc, pO, lO, gn, ln, fA, wd', sm, lc, od, sh, ev)) :
    ∀ t f R (wd : Nat → Int32), t ≤ 3 → t < f → zd_A wd 4 R → (∀ m, t ≤ m → m < 3 → wd (4 + m) = nI (zd (zc_M msg w) m)) → zc_run (zd (zc_M msg w)) t R = zc_R (zc_M msg w) → wX_code_22 post (nI msg) (nI w) bc rc fc mc f (nI t + (-1)) pO lO gn ln fA wd sm lc od sh ev := by
  intro t
  induction t with
  | zero =>
    intro f R wd ht hf hw hu hr
    obtain ⟨f, rfl⟩ : ∃ f', f = f' + 1 := ⟨f - 1, by omega⟩
    have hr' : R = zc_R (zc_M msg w) := hr
    subst hr'
    exact br_t zn_m0 (h wd (zc_W_at hw (fun m hm => hu m (by omega) hm)))
  | succ t ih =>
    intro f R wd ht hf hw hu hr
    obtain ⟨f, rfl⟩ : ∃ f', f = f' + 1 := ⟨f - 1, by omega⟩
    have e4 : (nI msg >>> ((3 * ((5 - (2 * nI t)) - nI w)) &&& 31)) &&& 7 = nI (zd (zc_M msg w) t) := by
      rw [pk_shrN hmsg _ _ (zg_shX t (by omega) w hw2), zc_M_at msg w (by omega)]
      exact pk_andN (Nat.lt_of_le_of_lt (Nat.div_le_self _ _) (by omega)) 3 (by decide)
    have e5 : (4 : Int32) + nI t = nI (4 + t) := nI_add 4 t
    rw [pk_m1]
    refine br_f (nI_pos (by omega)) (nm_r e4 ?_)
    rw [e5, nI_clamp (by omega), zn_b (zd_lt _ _)]
    refine ⟨vp_in_nI (by omega) (by decide), nm_e (nm_r (e' := nI (zd (zc_M msg w) t ^^^ zd R 3)) ?_ ⟨4, ?_⟩)⟩
    · rw [pk_un (by omega), hw 3 (by omega), nx_xor]
    · refine zx_w67 (R := R) (w0 := upd wd (4 + t) (nI (zd (zc_M msg w) t))) hT hG (zf_x8 (zd_lt _ _) (zd_lt _ _)) (fun wd' h1 h2 => ?_) 3 4 _ (by omega) (by omega) (fun j hj => ?_) (fun j hj => rfl)
      · refine ih f (zc_st R (zd (zc_M msg w) t)) wd' (by omega) (by omega) ?_ (fun m hm hm3 => ?_) hr
        · rw [zc_st_eq]
          exact zd_FA h1 (fun j _ => zc_d_lt _ _ _)
        · rw [h2 _ (by omega)]
          by_cases q : m = t
          · rw [q]; exact pk_us
          · rw [pk_un (by omega)]; exact hu m (by omega) hm3
      · rw [pk_un (by omega), hw j hj]
        show nI (zd R j) = nI (if 3 < j then _ else zd R j)
        rw [if_neg (by omega)]
theorem zx_w2 {post : SX → Prop} {msg w : Nat} (hT : zf_T pO lO) (hG : zd_A gn 5 zc_G) (hmsg : msg < 2 ^ 31) (hw2 : w < 2) (h : ∀ wd', zd_A wd' 7 (zc_W (zc_M msg w)) → post (bc, rc, fc, mc, pO, lO, gn, ln, fA, wd', sm, lc, od, sh, ev)) :
    ∀ m i f (wd : Nat → Int32), i + m = 4 → m < f → (∀ j, j < i → wd j = nI 0) → wX_code_2 post (nI msg) (nI w) bc rc fc mc f (nI i) pO lO gn ln fA wd sm lc od sh ev := by
  intro m
  induction m with
  | zero =>
    intro i f wd hi hf hw
    obtain ⟨f, rfl⟩ : ∃ f', f = f' + 1 := ⟨f - 1, by omega⟩
    obtain rfl : i = 4 := by omega
    refine br_t (nI_le (a := 4) (by omega) (by omega)) ⟨4, ?_⟩
    exact zx_w22 hT hG hmsg hw2 h 3 4 0 wd (by omega) (by omega) (fun j hj => by rw [hw j hj, zd_0]) (fun m hm hm3 => absurd hm3 (by omega)) (zc_R_eq _).symm
  | succ m ih =>
    intro i f wd hi hf hw
    obtain ⟨f, rfl⟩ : ∃ f', f = f' + 1 := ⟨f - 1, by omega⟩
    refine br_f (nI_ge (b := 4) (by omega) (by omega)) ⟨vp_in_nI (by omega) (by decide), ?_⟩
    rw [nI_clamp (by omega), show vp_nar .byte 0 = nI 0 from zn_b' (v := 0) (by decide)]
    refine nm_e (nm_r (nI_1 i) (ih (i + 1) f _ (by omega) (by omega) (fun j hj => ?_)))
    by_cases q : j = i
    · rw [q]; exact pk_us
    · rw [pk_un q]; exact hw j (by omega)
theorem zx_code {post : SX → Prop} {x y : Int32} (msg w : Nat) (hT : zf_T pO lO) (hG : zd_A gn 5 zc_G) (hmsg : msg < 2 ^ 31) (hw2 : w < 2) (hx : x = nI msg) (hy : y = nI w) (h : ∀ wd', zd_A wd' 7 (zc_W (zc_M msg w)) → post (bc, rc, fc, mc, pO, lO, gn, ln, fA, wd', sm, lc, od, sh, ev)) : wpX_code post (bc, rc, fc, mc, pO, lO, gn, ln, fA, wd, sm, lc, od, sh, ev) x y := by
  subst hx hy
  exact ⟨5, zx_w2 hT hG hmsg hw2 h 4 0 5 wd rfl (by omega) (fun j hj => absurd hj (Nat.not_lt_zero j))⟩
theorem zx_pu {post : SX → Prop} {b : Nat → Bool} {W w s i : Nat} (hi : i < 7) (hw2 : w < 2) (hs : s + 50 ≤ 300) (h : ∀ ln', zl_X ln' (zl_ly W w s b (3 * i + 3)) → post (bc, rc, fc, mc, pO, lO, gn, ln', fA, wd, sm, lc, od, sh, ev)) :
    ∀ m k f (ln : Nat → Int64), k + m = 3 → m < f → zl_X ln (zl_ly W w s b (3 * i + k)) → wX_putSymbol_12 post (nI s) (nI (2 * i + w)) (nI (zd W i ^^^ zr_s (2 * i + w))) f (nI k) bc rc fc mc pO lO gn ln fA wd sm lc od sh ev := by
  intro m
  induction m with
  | zero =>
    intro k f ln hk hf hl
    obtain ⟨f, rfl⟩ : ∃ f', f = f' + 1 := ⟨f - 1, by omega⟩
    obtain rfl : k = 3 := by omega
    exact br_t (nI_le (a := 3) (by omega) (by omega)) (h ln hl)
  | succ m ih =>
    intro k f ln hk hf hl
    obtain ⟨f, rfl⟩ : ∃ f', f = f' + 1 := ⟨f - 1, by omega⟩
    refine br_f (nI_ge (b := 3) (by omega) (by omega)) (zx_set (s + 8 + 3 * (2 * i + w) + k) _ hl (by omega) (zn_ix s _ k) (zn_bt _ (zf_x8 (zd_lt _ _) (zr_s_lt _)) k (by omega)) (fun ln' hl' => ?_))
    refine nm_r (nI_1 k) (ih (k + 1) f ln' (by omega) (by omega) ?_)
    have e : zl_ly W w s b (3 * i + (k + 1)) = zl_u (zl_ly W w s b (3 * i + k)) (s + 8 + 3 * (2 * ((3 * i + k) / 3) + w) + (3 * i + k) % 3) (zl_bt (zd W ((3 * i + k) / 3) ^^^ zr_s (2 * ((3 * i + k) / 3) + w)) ((3 * i + k) % 3)) := rfl
    rw [e, show (3 * i + k) / 3 = i from by omega, show (3 * i + k) % 3 = k from by omega]
    exact hl'
theorem zx_put {post : SX → Prop} {x y z : Int32} {b : Nat → Bool} {W w s i : Nat} (hi : i < 7) (hw2 : w < 2) (hs : s + 50 ≤ 300) (hl : zl_X ln (zl_ly W w s b (3 * i))) (hx : x = nI s) (hy : y = nI (2 * i + w)) (hz : z = nI (zd W i))
    (h : ∀ ln', zl_X ln' (zl_ly W w s b (3 * i + 3)) → post (bc, rc, fc, mc, pO, lO, gn, ln', fA, wd, sm, lc, od, sh, ev)) : wpX_putSymbol post (bc, rc, fc, mc, pO, lO, gn, ln, fA, wd, sm, lc, od, sh, ev) x y z := by
  subst hx hy hz
  show ∀ y : Int32, y = nI (zd W i) ^^^ (((nI (2 * i + w) * nI (2 * i + w) + 3 * nI (2 * i + w)) + 5) &&& 7) → ∃ n12 : Nat, wX_putSymbol_12 post (nI s) (nI (2 * i + w)) y n12 0 bc rc fc mc pO lO gn ln fA wd sm lc od sh ev
  rw [zn_scr (by omega), nx_xor]
  exact nm_e ⟨4, zx_pu hi hw2 hs h 3 0 4 ln rfl (by omega) hl⟩
theorem zx_se91 {post : Int32 → SX → Prop} {J77 : Int32 → Int32 → Int32 → Int32 → Int32 → (Nat → Int32) → (Nat → Int32) → (Nat → Int32) → (Nat → Int64) → (Nat → Int32) → (Nat → Int32) → (Nat → Int32) → (Nat → Int32) → (Nat → Int32) → (Nat → Int32) → (Nat → Int32) → Prop}
    {x1 : Int32} {b : Nat → Bool} {W w s : Nat} (hw : zd_A wd 7 W) (hw2 : w < 2) (hs : s + 50 ≤ 300) (h : ∀ ln', zl_X ln' (zl_ly W w s b 21) → J77 (nI (w + 1)) bc rc fc mc pO lO gn ln' fA wd sm lc od sh ev) :
    ∀ m i f (ln : Nat → Int64), i + m = 7 → m < f → zl_X ln (zl_ly W w s b (3 * i)) → wX_send_91 post J77 x1 (nI s) (nI w) f (nI i) bc rc fc mc pO lO gn ln fA wd sm lc od sh ev := by
  intro m
  induction m with
  | zero =>
    intro i f ln hi hf hl
    obtain ⟨f, rfl⟩ : ∃ f', f = f' + 1 := ⟨f - 1, by omega⟩
    obtain rfl : i = 7 := by omega
    exact br_t (nI_le (a := 7) (by omega) (by omega)) (nm_r (nI_1 w) (h ln hl))
  | succ m ih =>
    intro i f ln hi hf hl
    obtain ⟨f, rfl⟩ : ∃ f', f = f' + 1 := ⟨f - 1, by omega⟩
    refine br_f (nI_ge (b := 7) (by omega) (by omega)) ⟨vp_in_nI (by omega) (by decide), ?_⟩
    rw [nI_clamp (by omega)]
    refine zx_put (by omega) hw2 hs hl rfl (zn_2i i w) (hw i (by omega)) (fun ln' hl' => ?_)
    exact nm_r (nI_1 i) (ih (i + 1) f ln' (by omega) (by omega) hl')
theorem zx_se77 {post : Int32 → SX → Prop} {b : Nat → Bool} {msg s : Nat} (hT : zf_T pO lO) (hG : zd_A gn 5 zc_G) (hmsg : msg < 2 ^ 31) (hs : s + 50 ≤ 300) (hl : zl_X ln b)
    (h : ∀ (ln' : Nat → Int64) (wd' : Nat → Int32), zl_X ln' (zl_ly (zc_W (zc_M msg 1)) 1 s (zl_ly (zc_W (zc_M msg 0)) 0 s b 21) 21) → post bc (bc, 0, fc, mc, pO, lO, gn, ln', fA, wd', sm, lc, od, sh, ev)) : wX_send_77 post (nI msg) (nI s) 3 0 bc rc fc mc pO lO gn ln fA wd sm lc od sh ev := by
  refine br_f (by decide) (zx_code msg 0 hT hG hmsg (by omega) rfl rfl (fun wd1 h1 => ⟨8, ?_⟩))
  refine zx_se91 (w := 0) (b := b) h1 (by omega) hs (fun ln1 hl1 => ?_) 7 0 8 ln rfl (by omega) hl
  refine br_f (nI_ge (a := 1) (b := 2) (by omega) (by omega)) (zx_code msg 1 hT hG hmsg (by omega) rfl rfl (fun wd2 h2 => ⟨8, ?_⟩))
  refine zx_se91 (w := 1) (b := zl_ly (zc_W (zc_M msg 0)) 0 s b 21) h2 (by omega) hs (fun ln2 hl2 => ?_) 7 0 8 ln1 rfl (by omega) hl1
  exact br_t (nI_le (a := 2) (by omega) (by omega)) (h ln2 wd2 hl2)
theorem zx_se46 {post : Int32 → SX → Prop} {b : Nat → Bool} {msg s : Nat} (hT : zf_T pO lO) (hG : zd_A gn 5 zc_G) (hmsg : msg < 2 ^ 31) (hs : s + 50 ≤ 300)
    (h : ∀ (ln' : Nat → Int64) (wd' : Nat → Int32), zl_X ln' (zl_send msg s b) → post bc (bc, 0, fc, mc, pO, lO, gn, ln', fA, wd', sm, lc, od, sh, ev)) :
    ∀ m k f (ln : Nat → Int64), k + m = 8 → m < f → zl_X ln (zl_ma s b k) → wX_send_46 post (nI msg) (nI s) f (nI k) bc rc fc mc pO lO gn ln fA wd sm lc od sh ev := by
  intro m
  induction m with
  | zero =>
    intro k f ln hk hf hl
    obtain ⟨f, rfl⟩ : ∃ f', f = f' + 1 := ⟨f - 1, by omega⟩
    obtain rfl : k = 8 := by omega
    exact br_t (nI_le (a := 8) (by omega) (by omega)) ⟨3, zx_se77 hT hG hmsg hs hl h⟩
  | succ m ih =>
    intro k f ln hk hf hl
    obtain ⟨f, rfl⟩ : ∃ f', f = f' + 1 := ⟨f - 1, by omega⟩
    refine br_f (nI_ge (b := 8) (by omega) (by omega)) (zx_set (s + k) _ hl (by omega) (nI_add s k) (zn_mk k (by omega)) (fun ln' hl' => ?_))
    exact nm_r (nI_1 k) (ih (k + 1) f ln' (by omega) (by omega) hl')
end
end
section
/-! sending: the reference -/
theorem zg_s3 : ∀ i, i < 4 → (((3 * nI i) &&& 31).toBitVec.smod 32).toNat = 3 * i := by decide +kernel
theorem zn_3 {t : Nat} (h : t < 21) : nI t / 3 = nI (t / 3) := pk_div (d := 3) (by omega) (by decide) (by decide)
theorem zn_3r {t : Nat} (h : t < 21) : nI t - nI t / 3 * 3 = nI (t % 3) := pk_rem (d := 3) (by omega) (by decide) (by decide)
section
variable {yn yc yf : Int32} {yl yw yp ys : Nat → Int32}
theorem zy_k17 {post : SY → Prop} {J4 : Int32 → Int32 → (Nat → Int32) → (Nat → Int32) → (Nat → Int32) → (Nat → Int32) → Prop} {c M : Nat} (hp : ∀ j, j < 7 → yp j = nI (zf_pw j)) (hc : c < 4096)
    (h : ∀ yw', zd_A yw' 7 (c + 8 ^ 4 * M) → (∀ m, m < 3 → yw' (4 + m) = nI (zd M m)) → J4 (if zs_P (c + 8 ^ 4 * M) = 0 then 1 else 0) (nI (c + 1)) yl yw' yp ys) :
    ∀ m i f (yw : Nat → Int32), i + m = 4 → m < f → (∀ j, j < i → yw j = nI (zd c j)) → (∀ m, m < 3 → yw (4 + m) = nI (zd M m)) → wY_complete_17 post J4 (nI c) yn yc yf f (nI i) yl yw yp ys := by
  intro m
  induction m with
  | zero =>
    intro i f yw hi hf hw hu
    obtain ⟨f, rfl⟩ : ∃ f', f = f' + 1 := ⟨f - 1, by omega⟩
    obtain rfl : i = 4 := by omega
    have hd : zd_A yw 7 (c + 8 ^ 4 * M) := by
      intro j hj
      show yw j = nI (zd (c + 8 ^ 4 * M) j)
      by_cases q : j < 4
      · rw [zd_lo M hc q]; exact hw j q
      · obtain ⟨d, rfl⟩ : ∃ d, j = 4 + d := ⟨j - 4, by omega⟩
        rw [zd_hi M hc]; exact hu d (by omega)
    exact br_t (nI_le (a := 4) (by omega) (by omega)) (zy_isCode hp hd (nm_r (nI_1 c) (h yw hd hu)))
  | succ m ih =>
    intro i f yw hi hf hw hu
    obtain ⟨f, rfl⟩ : ∃ f', f = f' + 1 := ⟨f - 1, by omega⟩
    have e : (nI c >>> ((3 * nI i) &&& 31)) &&& 7 = nI (zd c i) := by
      rw [pk_shrN (by omega) _ _ (zg_s3 i (by omega))]
      unfold zd
      rw [Nat.shiftRight_eq_div_pow]
      exact pk_andN (Nat.lt_of_le_of_lt (Nat.div_le_self _ _) (by omega)) 3 (by decide)
    refine br_f (nI_ge (b := 4) (by omega) (by omega)) ⟨vp_in_nI (by omega) (by decide), ?_⟩
    rw [nI_clamp (by omega), e]
    refine nm_e (nm_r (nI_1 i) (ih (i + 1) f _ (by omega) (by omega) (fun j hj => ?_) (fun j hj => ?_)))
    · by_cases q : j = i
      · rw [q]; exact pk_us
      · rw [pk_un q]; exact hw j (by omega)
    · rw [pk_un (by omega)]; exact hu j hj
theorem zy_k4 {post : SY → Prop} {M : Nat} (hp : ∀ j, j < 7 → yp j = nI (zf_pw j)) (hM : M < 512) (h : ∀ yw', zd_A yw' 7 (zc_W M) → post (yn, yc, yf, yl, yw', yp, ys)) :
    ∀ d c f (yw : Nat → Int32), c + d = zc_R M → d + 1 < f → (∀ m, m < 3 → yw (4 + m) = nI (zd M m)) → wY_complete_4 post yn yc yf f 0 (nI c) yl yw yp ys := by
  have hR : zc_R M < 4096 := zc_R_lt M
  intro d
  induction d with
  | zero =>
    intro c f yw hc hf hu
    obtain ⟨f, rfl⟩ : ∃ f', f = f' + 1 + 1 := ⟨f - 2, by omega⟩
    obtain rfl : c = zc_R M := by omega
    refine br_f (nI_ge (b := 4096) hR (by omega)) (br_t rfl ⟨5, zy_k17 (M := M) hp hR (fun yw' hd hu' => ?_) 4 0 5 yw rfl (by omega) (fun j hj => absurd hj (Nat.not_lt_zero j)) hu⟩)
    rw [if_pos (show zs_P (zc_R M + 8 ^ 4 * M) = 0 from zc_law hM)]
    have hq := h yw' hd
    exact pk_le 4096 (zc_R M + 1) (fun _ => hq) (fun _ => br_f (by decide) hq)
  | succ d ih =>
    intro c f yw hc hf hu
    obtain ⟨f, rfl⟩ : ∃ f', f = f' + 1 := ⟨f - 1, by omega⟩
    have hc' : c < 4096 := by omega
    refine br_f (nI_ge (b := 4096) hc' (by omega)) (br_t rfl ⟨5, zy_k17 (M := M) hp hc' (fun yw' hd hu' => ?_) 4 0 5 yw rfl (by omega) (fun j hj => absurd hj (Nat.not_lt_zero j)) hu⟩)
    rw [if_neg (fun q => by have := zc_uni hc' hM q; omega)]
    exact ih (c + 1) f yw' (by omega) (by omega) hu'
theorem zy_complete {post : SY → Prop} {M : Nat} (hp : ∀ j, j < 7 → yp j = nI (zf_pw j)) (hM : M < 512) (hu : ∀ m, m < 3 → yw (4 + m) = nI (zd M m)) (h : ∀ yw', zd_A yw' 7 (zc_W M) → post (yn, yc, yf, yl, yw', yp, ys)) : wpY_complete post (yn, yc, yf, yl, yw, yp, ys) :=
  ⟨zc_R M + 2, zy_k4 hp hM h (zc_R M) 0 (zc_R M + 2) yw (by omega) (by omega) hu⟩
theorem zy_lay2 {post : SY → Prop} {b : Nat → Bool} {W w s : Nat} (hw : zd_A yw 7 W) (hw2 : w < 2) (hs : s + 50 ≤ 300) (h : ∀ yl', zl_Y yl' (zl_ly W w s b 21) → post (nI s, yc, yf, yl', yw, yp, ys)) :
    ∀ m t f (yl : Nat → Int32), t + m = 21 → m < f → zl_Y yl (zl_ly W w s b t) → wY_lay_2 post (nI w) (nI s) yc yf f (nI t) yl yw yp ys := by
  intro m
  induction m with
  | zero =>
    intro t f yl ht hf hl
    obtain ⟨f, rfl⟩ : ∃ f', f = f' + 1 := ⟨f - 1, by omega⟩
    obtain rfl : t = 21 := by omega
    exact br_t (nI_le (a := 21) (by omega) (by omega)) (h yl hl)
  | succ m ih =>
    intro t f yl ht hf hl
    obtain ⟨f, rfl⟩ : ∃ f', f = f' + 1 := ⟨f - 1, by omega⟩
    have hv := ih (t + 1) f
    have hix : s + 8 + 3 * (2 * (t / 3) + w) + t % 3 < 300 := by omega
    refine br_f (nI_ge (b := 21) (by omega) (by omega)) ⟨by decide, ?_⟩
    rw [zn_3r (by omega), zn_3 (by omega), nI_clamp (n := t / 3) (by omega), hw (t / 3) (by omega)]
    refine nm_r (zn_2i (t / 3) w) ⟨by decide, vp_in_nI (by omega) (by decide), ?_⟩
    show ∀ y : Int32, y = nI (zd W (t / 3)) ^^^ (((nI (2 * (t / 3) + w) * nI (2 * (t / 3) + w) + 3 * nI (2 * (t / 3) + w)) + 5) &&& 7) → _
    rw [zn_scr (by omega), nx_xor]
    refine nm_e ⟨by decide, by decide, ?_⟩
    rw [zn_bt _ (zf_x8 (zd_lt _ _) (zr_s_lt _)) _ (by omega), zn_ix, nI_clamp (by omega)]
    have hu := zl_yu hl (s + 8 + 3 * (2 * (t / 3) + w) + t % 3) (zl_bt (zd W (t / 3) ^^^ zr_s (2 * (t / 3) + w)) (t % 3))
    have hk := ih (t + 1) f _ (by omega) (by omega) hu
    cases e : zl_bt (zd W (t / 3) ^^^ zr_s (2 * (t / 3) + w)) (t % 3) with
    | false =>
      rw [e] at hk
      exact br_f (by decide) ⟨vp_in_nI hix (by decide), nm_r (by rw [show vp_nar .boolean 0 = nI false.toNat from zn_B false]) (nm_r (nI_1 t) hk)⟩
    | true =>
      rw [e] at hk
      exact br_t rfl ⟨vp_in_nI hix (by decide), nm_r (by rw [show vp_nar .boolean 1 = nI true.toNat from zn_B true]) (nm_r (nI_1 t) hk)⟩
theorem zy_se67 {post : Int32 → SY → Prop} {J60 : Int32 → Int32 → Int32 → Int32 → (Nat → Int32) → (Nat → Int32) → (Nat → Int32) → (Nat → Int32) → Prop} {b : Nat → Bool} {msg w s : Nat} (hp : ∀ j, j < 7 → yp j = nI (zf_pw j)) (hmsg : msg < 2 ^ 31) (hw2 : w < 2) (hs : s + 50 ≤ 300) (hl : zl_Y yl b)
    (h : ∀ yl' yw', zl_Y yl' (zl_ly (zc_W (zc_M msg w)) w s b 21) → J60 (nI (w + 1)) (nI s) yc yf yl' yw' yp ys) :
    ∀ m i f (yw : Nat → Int32), i + m = 3 → m < f → (∀ j, j < i → yw (4 + j) = nI (zd (zc_M msg w) j)) → wY_send_67 post J60 (nI msg) (nI w) (nI s) yc yf f (nI i) yl yw yp ys := by
  intro m
  induction m with
  | zero =>
    intro i f yw hi hf hu
    obtain ⟨f, rfl⟩ : ∃ f', f = f' + 1 := ⟨f - 1, by omega⟩
    obtain rfl : i = 3 := by omega
    refine br_t (nI_le (a := 3) (by omega) (by omega)) (zy_complete hp (zc_M_lt _ _) hu (fun yw' hd => ⟨22, ?_⟩))
    exact zy_lay2 (b := b) hd hw2 hs (fun yl' hl' => nm_r (nI_1 w) (h yl' yw' hl')) 21 0 22 yl rfl (by omega) hl
  | succ m ih =>
    intro i f yw hi hf hu
    obtain ⟨f, rfl⟩ : ∃ f', f = f' + 1 := ⟨f - 1, by omega⟩
    have e4 : (nI msg >>> (((15 - (6 * nI i)) - (3 * nI w)) &&& 31)) &&& 7 = nI (zd (zc_M msg w) i) := by
      rw [pk_shrN hmsg _ _ (zg_shY i (by omega) w hw2), zc_M_at msg w (by omega)]
      exact pk_andN (Nat.lt_of_le_of_lt (Nat.div_le_self _ _) (by omega)) 3 (by decide)
    refine br_f (nI_ge (b := 3) (by omega) (by omega)) ?_
    rw [show (4 : Int32) + nI i = nI (4 + i) from nI_add 4 i, nI_clamp (by omega), e4]
    refine ⟨vp_in_nI (by omega) (by decide), nm_e (nm_r (nI_1 i) (ih (i + 1) f _ (by omega) (by omega) (fun j hj => ?_)))⟩
    by_cases q : j = i
    · rw [q]; exact pk_us
    · rw [pk_un (by omega)]; exact hu j (by omega)
theorem zy_se60 {post : Int32 → SY → Prop} {b : Nat → Bool} {msg s : Nat} (hp : ∀ j, j < 7 → yp j = nI (zf_pw j)) (hmsg : msg < 2 ^ 31) (hs : s + 50 ≤ 300) (hl : zl_Y yl b)
    (h : ∀ yl' yw', zl_Y yl' (zl_ly (zc_W (zc_M msg 1)) 1 s (zl_ly (zc_W (zc_M msg 0)) 0 s b 21) 21) → post (nI (s + 50)) (nI (s + 50), yc, yf, yl', yw', yp, ys)) : wY_send_60 post (nI msg) 3 0 (nI s) yc yf yl yw yp ys := by
  refine br_f (by decide) ⟨4, zy_se67 (w := 0) hp hmsg (by omega) hs hl (fun yl1 yw1 h1 => ?_) 3 0 4 yw rfl (by omega) (fun j hj => absurd hj (Nat.not_lt_zero j))⟩
  refine br_f (nI_ge (a := 1) (b := 2) (by omega) (by omega)) ⟨4, zy_se67 (w := 1) hp hmsg (by omega) hs h1 (fun yl2 yw2 h2 => ?_) 3 0 4 yw1 rfl (by omega) (fun j hj => absurd hj (Nat.not_lt_zero j))⟩
  exact br_t (nI_le (a := 2) (by omega) (by omega)) (nm_r (nI_add s 50) (h yl2 yw2 h2))
theorem zy_mark {post : Int32 → Prop} {k : Nat} (hk : k < 8) (h : post (nI (zl_mk k).toNat)) : wpY_marker post (yn, yc, yf, yl, yw, yp, ys) (nI k) := by
  refine pk_eq k 0 (fun e => by subst e; exact h) (fun e0 => pk_eq k 2 (fun e => by subst e; exact h) (fun e2 => pk_eq k 3 (fun e => by subst e; exact h) (fun e3 => pk_eq k 6 (fun e => by subst e; exact h) (fun e6 => ?_))))
  have hq : k = 1 ∨ k = 4 ∨ k = 5 ∨ k = 7 := by omega
  rcases hq with rfl | rfl | rfl | rfl <;> exact h
theorem zy_se30 {post : Int32 → SY → Prop} {b : Nat → Bool} {msg s : Nat} (hp : ∀ j, j < 7 → yp j = nI (zf_pw j)) (hmsg : msg < 2 ^ 31) (hs : s + 50 ≤ 300)
    (h : ∀ yl' yw', zl_Y yl' (zl_send msg s b) → post (nI (s + 50)) (nI (s + 50), yc, yf, yl', yw', yp, ys)) :
    ∀ m k f (yl : Nat → Int32), k + m = 8 → m < f → zl_Y yl (zl_ma s b k) → wY_send_30 post (nI msg) (nI s) yc yf f (nI k) yl yw yp ys := by
  intro m
  induction m with
  | zero =>
    intro k f yl hk hf hl
    obtain ⟨f, rfl⟩ : ∃ f', f = f' + 1 := ⟨f - 1, by omega⟩
    obtain rfl : k = 8 := by omega
    exact br_t (nI_le (a := 8) (by omega) (by omega)) ⟨3, zy_se60 hp hmsg hs hl h⟩
  | succ m ih =>
    intro k f yl hk hf hl
    obtain ⟨f, rfl⟩ : ∃ f', f = f' + 1 := ⟨f - 1, by omega⟩
    refine br_f (nI_ge (b := 8) (by omega) (by omega)) (zy_mark (by omega) ?_)
    rw [nI_add, nI_clamp (by omega), zn_B]
    exact ⟨vp_in_nI (by omega) (by decide), nm_e (nm_r (nI_1 k) (ih (k + 1) f _ (by omega) (by omega) (zl_yu hl _ _)))⟩
end
end
section
/-! receiving: pure, the reference, the class -/
def zr_q (b : Nat → Bool) (p : Nat) : Nat → Nat
  | 0 => 0
  | k + 1 => zr_q b p k + (if b (p + k) = zl_mk k then 0 else 1)
def zr_i (n : Nat) (b : Nat → Bool) (p : Nat) : Bool := decide (p + 7 < n ∧ zr_q b p 8 ≤ 1)
def zr_h (n : Nat) (b : Nat → Bool) : Nat → Nat → Nat
  | 0, _ => n
  | d + 1, p => if zr_i n b p = true then p else zr_h n b d (p + 1)
def zr_H (n : Nat) (b : Nat → Bool) (p : Nat) : Nat := zr_h n b (n - p) p
def zr_go (n : Nat) (b : Nat → Bool) : Nat → Nat → Bool → Nat → (Nat → Nat) → Nat × (Nat → Nat)
  | 0, _, _, m, g => (m, g)
  | d + 1, a, miss, m, g => if a + 49 < n then (if zr_i n b a = true ∨ miss = false then zr_go n b d (a + 50) (!zr_i n b a) (m + 1) (fun j => if j = m then a else g j) else zr_go n b d (zr_H n b a) false m g) else (m, g)
def zr_F (n : Nat) (b : Nat → Bool) : Nat × (Nat → Nat) := zr_go n b 20 (zr_H n b 0) false 0 (fun _ => 0)
theorem zr_H_s {n : Nat} {b : Nat → Bool} {p : Nat} (h : p < n) : zr_H n b p = if zr_i n b p = true then p else zr_H n b (p + 1) := by
  unfold zr_H
  obtain ⟨d, e⟩ : ∃ d, n - p = d + 1 := ⟨n - p - 1, by omega⟩
  rw [e, show n - (p + 1) = d from by omega]
  rfl
theorem zr_H_b {n : Nat} {b : Nat → Bool} : ∀ d p, p + d = n → p ≤ zr_H n b p ∧ zr_H n b p ≤ n := by
  intro d
  induction d with
  | zero =>
    intro p hp
    unfold zr_H
    rw [show n - p = 0 from by omega]
    exact ⟨by show p ≤ n; omega, Nat.le_refl n⟩
  | succ d ih =>
    intro p hp
    rw [zr_H_s (by omega)]
    have := ih (p + 1) (by omega)
    split <;> omega
theorem zr_H_n {n : Nat} {b : Nat → Bool} : ∀ d p, p + d = n → n ≤ p + 7 → zr_H n b p = n := by
  intro d
  induction d with
  | zero =>
    intro p hp _
    unfold zr_H
    rw [show n - p = 0 from by omega]
    rfl
  | succ d ih =>
    intro p hp h7
    rw [zr_H_s (by omega), if_neg (fun q => by have := of_decide_eq_true q; omega)]
    exact ih (p + 1) (by omega) (by omega)
theorem zr_H_ge {n p : Nat} {b : Nat → Bool} (h : n ≤ p) : zr_H n b p = n := by
  unfold zr_H
  rw [show n - p = 0 from by omega]
  rfl
theorem zr_go_out {n d a m : Nat} {b : Nat → Bool} {miss : Bool} {g : Nat → Nat} (h : ¬ a + 49 < n) : zr_go n b d a miss m g = (m, g) := by
  cases d with
  | zero => rfl
  | succ d => exact if_neg h
theorem zr_go_take {n d a m : Nat} {b : Nat → Bool} {miss : Bool} {g : Nat → Nat} (h : a + 49 < n) (h2 : zr_i n b a = true ∨ miss = false) : zr_go n b (d + 1) a miss m g = zr_go n b d (a + 50) (!zr_i n b a) (m + 1) (fun j => if j = m then a else g j) := (if_pos h).trans (if_pos h2)
theorem zr_go_hunt {n d a m : Nat} {b : Nat → Bool} {miss : Bool} {g : Nat → Nat} (h : a + 49 < n) (h2 : ¬ (zr_i n b a = true ∨ miss = false)) : zr_go n b (d + 1) a miss m g = zr_go n b d (zr_H n b a) false m g := (if_pos h).trans (if_neg h2)
theorem zr_go_ok {n : Nat} {b : Nat → Bool} : ∀ d a miss m g, a ≤ n → 50 * m ≤ a → (∀ k, k < m → g k + 50 ≤ n) → 50 * (zr_go n b d a miss m g).1 ≤ n ∧ ∀ k, k < (zr_go n b d a miss m g).1 → (zr_go n b d a miss m g).2 k + 50 ≤ n := by
  intro d
  induction d with
  | zero => intro a miss m g ha hm hg; exact ⟨by show 50 * m ≤ n; omega, hg⟩
  | succ d ih =>
    intro a miss m g ha hm hg
    by_cases h : a + 49 < n
    · by_cases h2 : zr_i n b a = true ∨ miss = false
      · rw [zr_go_take h h2]
        refine ih _ _ _ _ (by omega) (by omega) (fun k hk => ?_)
        show (if k = m then a else g k) + 50 ≤ n
        by_cases q : k = m
        · rw [if_pos q]; omega
        · rw [if_neg q]; exact hg k (by omega)
      · rw [zr_go_hunt h h2]
        have := zr_H_b (n := n) (b := b) (n - a) a (by omega)
        exact ih _ _ _ _ (by omega) (by omega) hg
    · rw [zr_go_out h]
      exact ⟨by show 50 * m ≤ n; omega, hg⟩
theorem zr_F_ok {n : Nat} (b : Nat → Bool) (hn : n ≤ 300) : (zr_F n b).1 ≤ 6 ∧ ∀ k, k < (zr_F n b).1 → (zr_F n b).2 k + 50 ≤ 300 := by
  have h0 := zr_H_b (n := n) (b := b) n 0 (by omega)
  have := zr_go_ok (n := n) (b := b) 20 (zr_H n b 0) false 0 (fun _ => 0) h0.2 (by omega) (fun k hk => absurd hk (Nat.not_lt_zero k))
  refine ⟨?_, fun k hk => ?_⟩
  · have h1 := this.1
    show (zr_go n b 20 (zr_H n b 0) false 0 (fun _ => 0)).1 ≤ 6
    omega
  · have h1 := this.2 k hk
    show (zr_go n b 20 (zr_H n b 0) false 0 (fun _ => 0)).2 k + 50 ≤ 300
    omega
theorem zn_bb : ∀ u v : Bool, nI u.toNat = nI v.toNat ↔ u = v := by decide
section
variable {yn yc yf : Int32} {yl yw yp ys : Nat → Int32}
theorem zy_si17 {post : Int32 → Prop} {b : Nat → Bool} {p : Nat} (hl : zl_Y yl b) (hp : p + 7 < 300) (h : post (nI (decide (zr_q b p 8 ≤ 1)).toNat)) :
    ∀ m k f, k + m = 8 → m < f → zr_q b p k ≤ k → wY_isSight_17 post (nI p) yn yc yf yl yw yp ys f (nI (zr_q b p k)) (nI k) := by
  intro m
  induction m with
  | zero =>
    intro k f hk hf hq
    obtain ⟨f, rfl⟩ : ∃ f', f = f' + 1 := ⟨f - 1, by omega⟩
    obtain rfl : k = 8 := by omega
    refine br_t (nI_le (a := 8) (by omega) (by omega)) (pk_lt 1 (zr_q b p 8) (fun c => ?_) (fun c => ?_))
    · rw [decide_eq_false (by omega)] at h; exact h
    · rw [decide_eq_true c] at h; exact h
  | succ m ih =>
    intro k f hk hf hq
    obtain ⟨f, rfl⟩ : ∃ f', f = f' + 1 := ⟨f - 1, by omega⟩
    refine br_f (nI_ge (b := 8) (by omega) (by omega)) ?_
    rw [nI_add, nI_clamp (by omega), hl (p + k) (by omega)]
    refine ⟨vp_in_nI (by omega) (by decide), zy_mark (by omega) ?_⟩
    have hr := ih (k + 1) f (by omega) (by omega)
    by_cases q : b (p + k) = zl_mk k
    · have e : zr_q b p (k + 1) = zr_q b p k := by show zr_q b p k + (if _ then 0 else 1) = _; rw [if_pos q, Nat.add_zero]
      rw [e] at hr
      exact br_t ((zn_bb _ _).mpr q) (nm_r (nI_1 k) (hr (by omega)))
    · have e : zr_q b p (k + 1) = zr_q b p k + 1 := by show zr_q b p k + (if _ then 0 else 1) = _; rw [if_neg q]
      rw [e] at hr
      exact br_f (fun z => q ((zn_bb _ _).mp z)) (nm_r (nI_1 _) (nm_r (nI_1 k) (hr (by omega))))
theorem zy_sight {post : Int32 → Prop} {x : Int32} {b : Nat → Bool} {n : Nat} (p : Nat) (hl : zl_Y yl b) (hn : n ≤ 300) (hp : p ≤ n) (hx : x = nI p) (h : post (nI (zr_i n b p).toNat)) : wpY_isSight post (nI n, yc, yf, yl, yw, yp, ys) x := by
  subst hx
  unfold zr_i at h
  refine pk_lt (p + 7) n (fun c => ?_) (fun c => ?_) (nI_add p 7) rfl
  · refine ⟨9, zy_si17 hl (by omega) ?_ 8 0 9 rfl (by omega) (Nat.le_refl 0)⟩
    have e : decide (p + 7 < n ∧ zr_q b p 8 ≤ 1) = decide (zr_q b p 8 ≤ 1) := by
      by_cases q : zr_q b p 8 ≤ 1
      · rw [decide_eq_true q, decide_eq_true ⟨c, q⟩]
      · rw [decide_eq_false q, decide_eq_false (fun z => q z.2)]
    rw [e] at h
    exact h
  · rw [decide_eq_false (by omega)] at h
    exact h
theorem zy_hu2 {post : Int32 → Prop} {b : Nat → Bool} {n : Nat} (hl : zl_Y yl b) (hn : n ≤ 300) :
    ∀ d p f, p + d = n → d < f → post (nI (zr_H n b p)) → wY_hunt_2 post (nI n) yc yf yl yw yp ys f (nI p) := by
  intro d
  induction d with
  | zero =>
    intro p f hp hf h
    obtain ⟨f, rfl⟩ : ∃ f', f = f' + 1 := ⟨f - 1, by omega⟩
    rw [zr_H_ge (by omega)] at h
    exact br_t (nI_le (by omega) (by omega)) h
  | succ d ih =>
    intro p f hp hf h
    obtain ⟨f, rfl⟩ : ∃ f', f = f' + 1 := ⟨f - 1, by omega⟩
    rw [zr_H_s (by omega)] at h
    refine br_f (nI_ge (by omega) (by omega)) (zy_sight p hl hn (by omega) rfl ?_)
    cases e : zr_i n b p with
    | false =>
      rw [e, if_neg Bool.false_ne_true] at h
      exact br_t nI_0 (nm_r (nI_1 p) (ih (p + 1) f (by omega) (by omega) h))
    | true =>
      rw [e, if_pos rfl] at h
      exact br_f (by decide) h
theorem zy_hunt {post : Int32 → Prop} {x : Int32} {b : Nat → Bool} {n : Nat} (p : Nat) (hl : zl_Y yl b) (hn : n ≤ 300) (hp : p ≤ n) (hx : x = nI p) (h : post (nI (zr_H n b p))) : wpY_hunt post (nI n, yc, yf, yl, yw, yp, ys) x := by
  subst hx
  exact ⟨n - p + 1, zy_hu2 hl hn (n - p) p _ (by omega) (by omega) h⟩
theorem zy_fits {post : Int32 → Prop} {n a : Nat} (hn : n ≤ 300) (ha : a ≤ 300) (h1 : a + 49 < n → post 1) (h0 : ¬ a + 49 < n → post 0) : wpY_fits post (nI n, yc, yf, yl, yw, yp, ys) (nI a) :=
  pk_le n (a + 49) (fun c => h0 (by omega)) (fun c => h1 (by omega)) rfl (nI_add a 49)
theorem zy_rc15 {post : SY → Prop} {b : Nat → Bool} {n : Nat} {R : Nat × (Nat → Nat)} (hl : zl_Y yl b) (hn : n ≤ 300) (h : ∀ ys', zd_F ys' R.1 R.2 → post (nI n, yc, nI R.1, yl, yw, yp, ys')) :
    ∀ d st f a miss m g (ys : Nat → Int32), st + d = 20 → d < f → 50 * m ≤ a → a ≤ n → zd_F ys m g → zr_go n b d a miss m g = R → wY_receive_15 post f (nI a) (nI miss.toNat) (nI st) (nI n) yc (nI m) yl yw yp ys := by
  intro d
  induction d with
  | zero =>
    intro st f a miss m g ys hst hf hm ha hy hR
    obtain ⟨f, rfl⟩ : ∃ f', f = f' + 1 := ⟨f - 1, by omega⟩
    obtain rfl : st = 20 := by omega
    have e : (m, g) = R := hR
    subst e
    exact br_t (nI_le (a := 20) (by omega) (by omega)) (h ys hy)
  | succ d ih =>
    intro st f a miss m g ys hst hf hm ha hy hR
    obtain ⟨f, rfl⟩ : ∃ f', f = f' + 1 := ⟨f - 1, by omega⟩
    refine br_f (nI_ge (b := 20) (by omega) (by omega)) (zy_fits hn (by omega) (fun c => ?_) (fun c => ?_))
    · refine br_f (by decide) (zy_sight a hl hn ha rfl ?_)
      have htake : (zr_i n b a = true ∨ miss = false) → wY_receive_45 post (wY_receive_15 post f) (nI a) (nI st) (nI (zr_i n b a).toNat) (nI n) yc (nI m) yl yw yp ys := by
        intro h2
        rw [zr_go_take c h2] at hR
        have hv : vp_in (nI m) 7 := vp_in_nI (by omega) (by decide)
        have hy' : zd_F (upd ys m (nI a)) (m + 1) (fun j => if j = m then a else g j) := by
          intro j hj
          show (if j = m then nI a else ys j) = nI (if j = m then a else g j)
          by_cases q : j = m
          · rw [if_pos q, if_pos q]
          · rw [if_neg q, if_neg q]; exact hy j (by omega)
        have hk := ih (st + 1) f (a + 50) (!zr_i n b a) (m + 1) _ (upd ys m (nI a)) (by omega) (by omega) (by omega) (by omega) hy' hR
        cases e : zr_i n b a with
        | false =>
          rw [e] at hk
          refine br_t nI_0 ⟨hv, ?_⟩
          rw [nI_clamp (by omega)]
          refine nm_e (nm_r (nI_1 m) (nm_r (nI_1 st) ?_))
          rw [show nI a + 50 = nI (a + 50) from nI_add a 50]
          exact hk
        | true =>
          rw [e] at hk
          refine br_f (by decide) ⟨hv, ?_⟩
          rw [nI_clamp (by omega)]
          refine nm_e (nm_r (nI_1 m) (nm_r (nI_1 st) ?_))
          rw [show nI a + 50 = nI (a + 50) from nI_add a 50]
          exact hk
      cases e : zr_i n b a with
      | false =>
        rw [e] at htake
        refine br_t nI_0 ?_
        cases e2 : miss with
        | false => exact br_t nI_0 (htake (Or.inr e2))
        | true =>
          rw [zr_go_hunt c (fun q => by rw [e, e2] at q; rcases q with q | q <;> exact absurd q (by decide))] at hR
          have hb := zr_H_b (n := n) (b := b) (n - a) a (by omega)
          refine br_f (by decide) (zy_hunt a hl hn ha rfl (nm_r (nI_1 st) ?_))
          exact ih (st + 1) f (zr_H n b a) false m g ys (by omega) (by omega) (by omega) hb.2 hy hR
      | true =>
        rw [e] at htake
        exact br_f (by decide) (htake (Or.inl rfl))
    · rw [zr_go_out c] at hR
      subst hR
      exact br_t rfl (h ys hy)
theorem zy_recv {post : SY → Prop} {b : Nat → Bool} {n : Nat} (hl : zl_Y yl b) (hn : n ≤ 300) (h : ∀ ys', zd_F ys' (zr_F n b).1 (zr_F n b).2 → post (nI n, yc, nI (zr_F n b).1, yl, yw, yp, ys')) : wpY_receive post (nI n, yc, yf, yl, yw, yp, ys) := by
  have hb := zr_H_b (n := n) (b := b) n 0 (by omega)
  refine zy_hunt 0 hl hn (by omega) rfl ⟨21, ?_⟩
  exact zy_rc15 hl hn h 20 0 21 (zr_H n b 0) false 0 (fun _ => 0) ys rfl (by omega) (by omega) hb.2 (fun j hj => absurd hj (Nat.not_lt_zero j)) rfl
end
end
section
/-! receiving: the class, a window of eight bits -/
def zr_w (b : Nat → Bool) : Nat → Nat
  | 0 => 0
  | i + 1 => (2 * zr_w b i + (b i).toNat) % 256
theorem zr_w_lt (b : Nat → Bool) : ∀ i, zr_w b i < 256 := by
  intro i
  cases i with
  | zero => exact (by decide : 0 < 256)
  | succ i => exact Nat.mod_lt _ (by decide)
theorem zr_w_or : ∀ w, w < 256 → ∀ c, c < 2 → (w * 2) % 256 ||| c = (2 * w + c) % 256 := by decide +kernel
theorem zr_w_8 (b : Nat → Bool) (p : Nat) : zr_w b (p + 8) = 128 * (b (p + 0)).toNat + 64 * (b (p + 1)).toNat + 32 * (b (p + 2)).toNat + 16 * (b (p + 3)).toNat + 8 * (b (p + 4)).toNat + 4 * (b (p + 5)).toNat + 2 * (b (p + 6)).toNat + (b (p + 7)).toNat := by
  have e : ∀ x c : Nat, (2 * (x % 256) + c) % 256 = (2 * x + c) % 256 := by intro x c; omega
  have h0 := zr_b1 (b (p + 0))
  have h1 := zr_b1 (b (p + 1))
  have h2 := zr_b1 (b (p + 2))
  have h3 := zr_b1 (b (p + 3))
  have h4 := zr_b1 (b (p + 4))
  have h5 := zr_b1 (b (p + 5))
  have h6 := zr_b1 (b (p + 6))
  have h7 := zr_b1 (b (p + 7))
  show (2 * ((2 * ((2 * ((2 * ((2 * ((2 * ((2 * ((2 * zr_w b p + (b (p + 0)).toNat) % 256) + (b (p + 1)).toNat) % 256) + (b (p + 2)).toNat) % 256) + (b (p + 3)).toNat) % 256) + (b (p + 4)).toNat) % 256) + (b (p + 5)).toNat) % 256) + (b (p + 6)).toNat) % 256) + (b (p + 7)).toNat) % 256 = _
  simp only [e]
  generalize (b (p + 0)).toNat = c0 at *
  generalize (b (p + 1)).toNat = c1 at *
  generalize (b (p + 2)).toNat = c2 at *
  generalize (b (p + 3)).toNat = c3 at *
  generalize (b (p + 4)).toNat = c4 at *
  generalize (b (p + 5)).toNat = c5 at *
  generalize (b (p + 6)).toNat = c6 at *
  generalize (b (p + 7)).toNat = c7 at *
  omega
def zr_sx (w : Nat) : Bool := decide (((nI w ^^^ 178) &&& ((nI w ^^^ 178) - 1)) = 0)
theorem zr_s8 : ∀ b0 b1 b2 b3 b4 b5 b6 b7 : Bool, zr_sx (128 * b0.toNat + 64 * b1.toNat + 32 * b2.toNat + 16 * b3.toNat + 8 * b4.toNat + 4 * b5.toNat + 2 * b6.toNat + b7.toNat) =
    decide (0 + (if b0 = zl_mk 0 then 0 else 1) + (if b1 = zl_mk 1 then 0 else 1) + (if b2 = zl_mk 2 then 0 else 1) + (if b3 = zl_mk 3 then 0 else 1) + (if b4 = zl_mk 4 then 0 else 1) + (if b5 = zl_mk 5 then 0 else 1) + (if b6 = zl_mk 6 then 0 else 1) + (if b7 = zl_mk 7 then 0 else 1) ≤ 1) := by decide +kernel
theorem zr_sxi {n p : Nat} {b : Nat → Bool} (h : p + 7 < n) : zr_sx (zr_w b (p + 8)) = zr_i n b p := by
  rw [zr_w_8, zr_s8]
  unfold zr_i
  have e : (0 + (if b (p + 0) = zl_mk 0 then 0 else 1) + (if b (p + 1) = zl_mk 1 then 0 else 1) + (if b (p + 2) = zl_mk 2 then 0 else 1) + (if b (p + 3) = zl_mk 3 then 0 else 1) + (if b (p + 4) = zl_mk 4 then 0 else 1) + (if b (p + 5) = zl_mk 5 then 0 else 1) + (if b (p + 6) = zl_mk 6 then 0 else 1) + (if b (p + 7) = zl_mk 7 then 0 else 1)) = zr_q b p 8 := rfl
  rw [e]
  by_cases q : zr_q b p 8 ≤ 1
  · rw [decide_eq_true q, decide_eq_true ⟨h, q⟩]
  · rw [decide_eq_false q, decide_eq_false (fun z => q z.2)]
theorem zn_s300 : ∀ p, p < 300 → vp_nar .short (nI p).toInt16.toInt32 = nI p := by
  have h : ∀ p, p < 300 → (nI p).toInt16.toInt32 = nI p := by decide +kernel
  intro p hp
  rw [h p hp, vp_nar_short, h p hp]
def zr_I (n : Nat) (b : Nat → Bool) (R : Nat × (Nat → Nat)) (i : Nat) (x2 x3 : Int32) (m : Nat) (g : Nat → Nat) : Prop :=
  ∃ (d a : Nat) (miss : Bool), x3 = nI miss.toNat ∧ 2 * ((n - a) / 50) + miss.toNat < d ∧ zr_go n b d a miss m g = R ∧ 50 * m ≤ a ∧ ((x2 = -1 ∧ miss = false ∧ a = zr_H n b (i - 7)) ∨ (x2 = nI a ∧ i ≤ a + 7 ∧ a ≤ 300))
theorem zr_It {n p m d : Nat} {b : Nat → Bool} {R : Nat × (Nat → Nat)} {miss : Bool} {g : Nat → Nat} (hn : n ≤ 300) (hd : 2 * ((n - p) / 50) + miss.toNat < d) (hR : zr_go n b d p miss m g = R) (hm : 50 * m ≤ p) (c : p + 49 < n) (h2 : zr_i n b p = true ∨ miss = false) :
    zr_I n b R (p + 7 + 1) (nI (p + 50)) (nI (!zr_i n b p).toNat) (m + 1) (fun j => if j = m then p else g j) := by
  obtain ⟨d, rfl⟩ : ∃ d', d = d' + 1 := ⟨d - 1, by omega⟩
  rw [zr_go_take c h2] at hR
  have h1 := zr_b1 (!zr_i n b p)
  exact ⟨d, p + 50, !zr_i n b p, rfl, by omega, hR, by omega, Or.inr ⟨rfl, by omega, by omega⟩⟩
section
variable {bc rc fc mc : Int32} {pO lO gn : Nat → Int32} {ln : Nat → Int64} {fA wd sm lc od sh ev : Nat → Int32}
theorem zx_sight {post : Int32 → Prop} {w : Nat} (h : post (nI (zr_sx w).toNat)) : wpX_isSight post (bc, rc, fc, mc, pO, lO, gn, ln, fA, wd, sm, lc, od, sh, ev) (nI w) := by
  unfold zr_sx at h
  refine nm_e ?_
  by_cases q : ((nI w ^^^ 178) &&& ((nI w ^^^ 178) - 1)) = 0
  · rw [decide_eq_true q] at h
    exact br_t q h
  · rw [decide_eq_false q] at h
    exact br_f q h
theorem zx_rc131 {post : SX → Prop} {J27 : Int32 → Int32 → Int32 → Int32 → Int32 → (Nat → Int32) → (Nat → Int32) → (Nat → Int32) → (Nat → Int64) → (Nat → Int32) → (Nat → Int32) → (Nat → Int32) → (Nat → Int32) → (Nat → Int32) → (Nat → Int32) → (Nat → Int32) → Prop}
    {x1 : Int32} {i p m : Nat} {s : Bool} {g : Nat → Nat} (hp : p < 300) (hm : m < 6) (hf : zd_F fA m g)
    (h : ∀ fA', zd_F fA' (m + 1) (fun j => if j = m then p else g j) → J27 x1 (nI (p + 50)) (nI (!s).toNat) (nI (i + 1)) (nI (m + 1)) pO lO gn ln fA' wd sm lc od sh ev) :
    wX_receive_131 post J27 x1 (nI i) (nI p) (nI s.toNat) bc rc (nI m) mc pO lO gn ln fA wd sm lc od sh ev := by
  have hv : vp_in (nI m) 6 := vp_in_nI hm (by decide)
  have hf' : zd_F (upd fA m (nI p)) (m + 1) (fun j => if j = m then p else g j) := by
    intro j hj
    show (if j = m then nI p else fA j) = nI (if j = m then p else g j)
    by_cases q : j = m
    · rw [if_pos q, if_pos q]
    · rw [if_neg q, if_neg q]; exact hf j (by omega)
  have hk := h _ hf'
  refine ⟨hv, ?_⟩
  rw [nI_clamp (by omega), zn_s300 p hp]
  refine nm_e (nm_r (nI_1 m) ?_)
  cases s with
  | false => exact br_t nI_0 (nm_r (nI_add p 50) (nm_r (nI_1 i) hk))
  | true => exact br_f (by decide) (nm_r (nI_add p 50) (nm_r (nI_1 i) hk))
theorem zx_rc76 {post : SX → Prop} {J27 : Int32 → Int32 → Int32 → Int32 → Int32 → (Nat → Int32) → (Nat → Int32) → (Nat → Int32) → (Nat → Int64) → (Nat → Int32) → (Nat → Int32) → (Nat → Int32) → (Nat → Int32) → (Nat → Int32) → (Nat → Int32) → (Nat → Int32) → Prop}
    {b : Nat → Bool} {n p m : Nat} {R : Nat × (Nat → Nat)} {x2 x3 : Int32} {g : Nat → Nat} (hn : n ≤ 300) (hp : p + 7 < n) (hf : zd_F fA m g) (hI : zr_I n b R (p + 7) x2 x3 m g) (h2 : x2 = -1 ∨ x2 = nI p)
    (h : ∀ fA', zd_F fA' R.1 R.2 → post (nI n, rc, nI R.1, mc, pO, lO, gn, ln, fA', wd, sm, lc, od, sh, ev))
    (hJ : ∀ x2' x3' m' g' fA', zr_I n b R (p + 7 + 1) x2' x3' m' g' → zd_F fA' m' g' → J27 (nI (zr_w b (p + 8))) x2' x3' (nI (p + 7 + 1)) (nI m') pO lO gn ln fA' wd sm lc od sh ev) :
    wX_receive_76 post J27 (nI (zr_w b (p + 8))) x2 x3 (nI (p + 7)) (nI p) (nI n) rc (nI m) mc pO lO gn ln fA wd sm lc od sh ev := by
  refine zx_sight ?_
  rw [zr_sxi hp]
  obtain ⟨d, a, miss, rfl, hd, hR, hm, hc⟩ := hI
  have hend : ¬ a + 49 < n → post (nI n, rc, nI m, mc, pO, lO, gn, ln, fA, wd, sm, lc, od, sh, ev) := by
    intro c
    rw [zr_go_out c] at hR
    subst hR
    exact h fA hf
  rcases hc with ⟨rfl, rfl, ha⟩ | ⟨rfl, hi, ha⟩
  · rw [show p + 7 - 7 = p from by omega, zr_H_s (by omega)] at ha
    refine br_f (by decide) ?_
    cases e : zr_i n b p with
    | true =>
      rw [e, if_pos rfl] at ha
      subst ha
      refine pk_le (a + 50) n (fun c => ?_) (fun c => ?_) (nI_add a 50) rfl
      · refine br_f (by decide) (zx_rc131 (s := true) (by omega) (by omega) hf (fun fA' hf' => ?_))
        have hk := zr_It hn hd hR hm (by omega) (Or.inl e)
        rw [e] at hk
        exact hJ _ _ _ _ _ hk hf'
      · exact br_f (by decide) (hend (by omega))
    | false =>
      rw [e, if_neg Bool.false_ne_true] at ha
      have hk : J27 (nI (zr_w b (p + 8))) (-1) 0 (nI (p + 7 + 1)) (nI m) pO lO gn ln fA wd sm lc od sh ev :=
        hJ (-1) 0 m g fA ⟨d, a, false, rfl, hd, hR, hm, Or.inl ⟨rfl, rfl, by rw [ha, show p + 7 + 1 - 7 = p + 1 from by omega]⟩⟩ hf
      have h117 : wX_receive_117 post J27 (nI (zr_w b (p + 8))) (nI false.toNat) (nI (p + 7)) (nI p) (nI false.toNat) 1 (nI n) rc (nI m) mc pO lO gn ln fA wd sm lc od sh ev :=
        br_t nI_0 (br_f (by decide) (nm_r (nI_1 (p + 7)) hk))
      refine pk_le (p + 50) n (fun c => h117) (fun c => br_t nI_0 (br_f (by decide) h117)) (nI_add p 50) rfl
  · have e' : a = p := by
      rcases h2 with h2 | h2
      · have h3 := nI_toInt (n := a) (by omega)
        rw [h2, show (-1 : Int32).toInt = -1 from by decide] at h3
        omega
      · exact (nI_eq (by omega) (by omega)).mp h2
    subst e'
    refine br_t (nI_pos' (by omega)) ?_
    refine pk_le (a + 50) n (fun c => ?_) (fun c => ?_) (nI_add a 50) rfl
    · have htake : (zr_i n b a = true ∨ miss = false) → wX_receive_131 post J27 (nI (zr_w b (a + 8))) (nI (a + 7)) (nI a) (nI (zr_i n b a).toNat) (nI n) rc (nI m) mc pO lO gn ln fA wd sm lc od sh ev :=
        fun q => zx_rc131 (by omega) (by omega) hf (fun fA' hf' => hJ _ _ _ _ _ (zr_It hn hd hR hm (by omega) q) hf')
      cases e : zr_i n b a with
      | true =>
        rw [e] at htake
        exact br_f (by decide) (htake (Or.inl rfl))
      | false =>
        rw [e] at htake
        refine br_t nI_0 (br_t rfl ?_)
        cases e2 : miss with
        | false => exact br_t nI_0 (htake (Or.inr e2))
        | true =>
          refine br_f (by decide) (nm_r (nI_1 (a + 7)) (hJ (-1) 0 m g fA ?_ hf))
          subst e2
          obtain ⟨d, rfl⟩ : ∃ d', d = d' + 1 := ⟨d - 1, by omega⟩
          rw [zr_go_hunt (by omega) (fun q => by rw [e] at q; rcases q with q | q <;> exact absurd q (by decide))] at hR
          have hb := zr_H_b (n := n) (b := b) (n - a) a (by omega)
          have hd' : 2 * ((n - a) / 50) + 1 < d + 1 := hd
          refine ⟨d, zr_H n b a, false, rfl, ?_, hR, by omega, Or.inl ⟨rfl, rfl, ?_⟩⟩
          · show 2 * ((n - zr_H n b a) / 50) + 0 < d
            omega
          · rw [zr_H_s (by omega), e, if_neg Bool.false_ne_true, show a + 7 + 1 - 7 = a + 1 from by omega]
    · have hq := hend (by omega)
      cases e : zr_i n b a with
      | true => exact br_f (by decide) hq
      | false => exact br_t nI_0 (br_t rfl hq)
theorem zx_rc27 {post : SX → Prop} {b : Nat → Bool} {n : Nat} {R : Nat × (Nat → Nat)} (hl : zl_X ln b) (hn : n ≤ 300) (h : ∀ fA', zd_F fA' R.1 R.2 → post (nI n, rc, nI R.1, mc, pO, lO, gn, ln, fA', wd, sm, lc, od, sh, ev)) :
    ∀ k i f (x2 x3 : Int32) (m : Nat) (g : Nat → Nat) (fA : Nat → Int32), i + k = n → k < f → zr_I n b R i x2 x3 m g → zd_F fA m g → wX_receive_27 post (nI n) rc mc f (nI (zr_w b i)) x2 x3 (nI i) (nI m) pO lO gn ln fA wd sm lc od sh ev := by
  intro k
  induction k with
  | zero =>
    intro i f x2 x3 m g fA hi hf hI hfa
    obtain ⟨f, rfl⟩ : ∃ f', f = f' + 1 := ⟨f - 1, by omega⟩
    obtain rfl : i = n := by omega
    refine br_t (nI_le (by omega) (by omega)) ?_
    obtain ⟨d, a, miss, rfl, hd, hR, hm, hc⟩ := hI
    have c : ¬ a + 49 < i := by
      rcases hc with ⟨_, _, ha⟩ | ⟨_, h7, _⟩
      · rw [zr_H_n (i - (i - 7)) (i - 7) (by omega) (by omega)] at ha
        omega
      · omega
    rw [zr_go_out c] at hR
    subst hR
    exact h fA hfa
  | succ k ih =>
    intro i f x2 x3 m g fA hi hf hI hfa
    obtain ⟨f, rfl⟩ : ∃ f', f = f' + 1 := ⟨f - 1, by omega⟩
    have hwl := zr_w_lt b i
    have ew : ((nI (zr_w b i) <<< ((1 : Int32) &&& 31)) &&& 255) ||| nI (b i).toNat = nI (zr_w b (i + 1)) := by
      rw [pk_shlN _ 1 (by decide) (by omega), pk_andN (by omega) 8 (by decide), zn_or]
      exact congrArg nI (zr_w_or _ hwl _ (by have := zr_b1 (b i); omega))
    refine br_f (nI_ge (by omega) (by omega)) (zx_bitAt i hl (by omega) rfl (nm_r ew ?_))
    have ih' := fun x2 x3 m g fA => ih (i + 1) f x2 x3 m g fA (by omega) (by omega)
    have hsk : (∀ d a, 2 * ((n - a) / 50) < d → i + 1 ≤ a + 7 ∨ a + 7 < i + 1) := fun d a _ => by omega
    by_cases h7 : i < 7
    · have hneg : nI i - 7 < 0 := pk_sneg (b := 7) (by omega) h7
      refine nm_e (br_t hneg (nm_r (nI_1 i) (ih' x2 x3 m g fA ?_ hfa)))
      obtain ⟨d, a, miss, q1, hd, hR, hm, hc⟩ := hI
      refine ⟨d, a, miss, q1, hd, hR, hm, ?_⟩
      rcases hc with ⟨c1, c2, c3⟩ | ⟨c1, c2, c3⟩
      · exact Or.inl ⟨c1, c2, by rw [c3, show i - 7 = 0 from by omega, show i + 1 - 7 = 0 from by omega]⟩
      · exact Or.inr ⟨c1, by omega, c3⟩
    · obtain ⟨p, rfl⟩ : ∃ p, i = p + 7 := ⟨i - 7, by omega⟩
      have e7 : nI (p + 7) - 7 = nI p := by rw [show (7 : Int32) = nI 7 from rfl, pk_sub (by omega), Nat.add_sub_cancel]
      have h76 := fun (hh : x2 = -1 ∨ x2 = nI p) => zx_rc76 (J27 := wX_receive_27 post (nI n) rc mc f) hn (by omega) hfa hI hh h (fun x2' x3' m' g' fA' => ih' x2' x3' m' g' fA')
      refine nm_r e7 (br_f (nI_pos (by omega)) ?_)
      obtain ⟨d, a, miss, q1, hd, hR, hm, hc⟩ := hI
      rcases hc with ⟨c1, c2, c3⟩ | ⟨c1, c2, c3⟩
      · rw [c1] at h76 ⊢
        exact br_t (by decide) (h76 (Or.inl rfl))
      · rw [c1] at h76 ⊢
        refine br_f (nI_pos (by omega)) (pk_le a p (fun c => ?_) (fun c => ?_))
        · have e : a = p := by omega
          rw [e] at h76 ⊢
          exact h76 (Or.inr rfl)
        · refine nm_r (nI_1 (p + 7)) (ih' (nI a) x3 m g fA ⟨d, a, miss, q1, hd, hR, hm, Or.inr ⟨rfl, by omega, c3⟩⟩ hfa)
theorem zx_recv {post : SX → Prop} {b : Nat → Bool} {n : Nat} (hl : zl_X ln b) (hn : n ≤ 300) (hr : rc = 0 ∨ (rc = 1 ∧ fc = nI (zr_F n b).1 ∧ zd_F fA (zr_F n b).1 (zr_F n b).2))
    (h : ∀ fA', zd_F fA' (zr_F n b).1 (zr_F n b).2 → post (nI n, 1, nI (zr_F n b).1, mc, pO, lO, gn, ln, fA', wd, sm, lc, od, sh, ev)) : wpX_receive post (nI n, rc, fc, mc, pO, lO, gn, ln, fA, wd, sm, lc, od, sh, ev) := by
  rcases hr with rfl | ⟨rfl, rfl, hf⟩
  · refine br_t rfl ⟨n + 1, ?_⟩
    refine zx_rc27 (R := zr_F n b) hl hn h n 0 (n + 1) (-1) 0 0 (fun _ => 0) fA (by omega) (by omega) ?_ (fun j hj => absurd hj (Nat.not_lt_zero j))
    refine ⟨20, zr_H n b 0, false, rfl, ?_, rfl, by omega, Or.inl ⟨rfl, rfl, rfl⟩⟩
    show 2 * ((n - zr_H n b 0) / 50) + 0 < 20
    omega
  · exact br_f (by decide) (h fA hf)
end
end
section
/-! the constructors -/
def zG_d (P k j : Nat) : Nat := if j = 0 then zf_gm (zd P 0) (zf_pw k) else if j ≤ k then zd P (j - 1) ^^^ zf_gm (zd P j) (zf_pw k) else zd P j
def zG (P k : Nat) : Nat := zd_pk (zG_d P k) 5
theorem zG_d_lt (P k j : Nat) : zG_d P k j < 8 := by
  unfold zG_d
  split
  · exact zf_gm_lt _ _
  · split
    · exact zf_x8 (zd_lt _ _) (zf_gm_lt _ _)
    · exact zd_lt _ _
theorem zG_4 : zG (zG (zG (zG 1 1) 2) 3) 4 = zc_G := by decide +kernel
theorem zf_gm2 : ∀ i, i < 7 → zf_gm (zf_pw i) 2 = zf_pw (i + 1) := by decide +kernel
theorem zf_T7 {pO lO : Nat → Int32} (h1 : ∀ k, k < 7 → pO k = nI (zf_pw k) ∧ pO (k + 7) = nI (zf_pw k)) (h2 : ∀ k, k < 7 → lO (zf_pw k) = nI k) (h3 : lO 0 = nI 0) : zf_T pO lO := by
  refine ⟨fun k hk => ?_, fun k hk => ?_⟩
  · by_cases q : k < 7
    · exact (h1 k q).1
    · obtain ⟨j, rfl⟩ : ∃ j, k = j + 7 := ⟨k - 7, by omega⟩
      rw [zf_pw7]
      exact (h1 j (by omega)).2
  · by_cases q : k = 0
    · subst q; exact h3
    · obtain ⟨a, e⟩ := zf_lgpw k hk q
      have := h2 _ a
      rw [e] at this
      exact this
section
variable {bc rc fc mc : Int32} {pO lO gn : Nat → Int32} {ln : Nat → Int64} {fA wd sm lc od sh ev : Nat → Int32}
theorem zx_b16 {post : SX → Prop} {J9 : Int32 → (Nat → Int32) → (Nat → Int32) → (Nat → Int32) → (Nat → Int64) → (Nat → Int32) → (Nat → Int32) → (Nat → Int32) → (Nat → Int32) → (Nat → Int32) → (Nat → Int32) → (Nat → Int32) → Prop}
    {P k : Nat} (hT : zf_T pO lO) (hk : k ≤ 4) (h : ∀ gn', zd_A gn' 5 (zG P k) → J9 (nI (k + 1)) pO lO gn' ln fA wd sm lc od sh ev) :
    ∀ i f (gn : Nat → Int32), i ≤ k → i < f → zd_F gn 5 (fun j => if i < j ∧ j ≤ k then zG_d P k j else zd P j) → wX_buildGenerator_16 post J9 (nI k) bc rc fc mc f (nI i) pO lO gn ln fA wd sm lc od sh ev := by
  intro i
  induction i with
  | zero =>
    intro f gn hi hf hg
    obtain ⟨f, rfl⟩ : ∃ f', f = f' + 1 := ⟨f - 1, by omega⟩
    have hg0 : gn 0 = nI (zd P 0) := by rw [hg 0 (by omega)]; show nI (if 0 < 0 ∧ 0 ≤ k then _ else _) = _; rw [if_neg (by omega)]
    refine br_t (by decide) ⟨vp_in_nI (by omega) (by decide), ?_⟩
    rw [nI_clamp (by omega), hT.1 k (by omega), hg0]
    refine zx_prod _ _ hT (zd_lt _ _) (zf_pw_lt _) rfl rfl ?_
    rw [zn_b (zf_gm_lt _ _)]
    refine nm_e (nm_r (nI_1 k) (h _ (zd_FA (zd_Fc (zd_Fu hg 0 _) (fun j hj => ?_)) (fun j _ => zG_d_lt _ _ _))))
    by_cases q : j = 0
    · rw [if_pos q, q]; rfl
    · rw [if_neg q]
      by_cases r : j ≤ k
      · rw [if_pos ⟨by omega, r⟩]
      · rw [if_neg (by omega)]
        unfold zG_d
        rw [if_neg q, if_neg r]
  | succ i ih =>
    intro f gn hi hf hg
    obtain ⟨f, rfl⟩ : ∃ f', f = f' + 1 := ⟨f - 1, by omega⟩
    have hgi : gn i = nI (zd P i) := by rw [hg i (by omega)]; show nI (if i + 1 < i ∧ i ≤ k then _ else _) = _; rw [if_neg (by omega)]
    have hgj : gn (i + 1) = nI (zd P (i + 1)) := by rw [hg (i + 1) (by omega)]; show nI (if i + 1 < i + 1 ∧ i + 1 ≤ k then _ else _) = _; rw [if_neg (by omega)]
    refine br_f (nI_nle (by omega) (by omega)) ⟨vp_in_nI (by omega) (by decide), vp_in_nI (by omega) (by decide), ?_⟩
    rw [nI_pred, nI_clamp (n := i + 1) (by omega), nI_clamp (n := k) (by omega), nI_clamp (n := i) (by omega), hT.1 k (by omega), hgj, hgi]
    refine zx_prod _ _ hT (zd_lt _ _) (zf_pw_lt _) rfl rfl ⟨vp_in_nI (by omega) (by decide), vp_in_nI (by omega) (by decide), ?_⟩
    rw [nx_xor, zn_b (zf_x8 (zd_lt _ _) (zf_gm_lt _ _))]
    refine nm_e (nm_r (pk_m1 i) (ih f _ (by omega) (by omega) (zd_Fc (zd_Fu hg (i + 1) _) (fun j hj => ?_))))
    by_cases q : j = i + 1
    · rw [if_pos q, if_pos (by omega), q]
      unfold zG_d
      rw [if_neg (by omega), if_pos hi]
      rfl
    · rw [if_neg q]
      by_cases r : i < j ∧ j ≤ k
      · rw [if_pos r, if_pos (by omega)]
      · rw [if_neg r, if_neg (by omega)]
theorem zx_b9 {post : SX → Prop} {P k f : Nat} (hT : zf_T pO lO) (hg : zd_A gn 5 P) (hk : k ≤ 4) (h : ∀ gn', zd_A gn' 5 (zG P k) → wX_buildGenerator_9 post bc rc fc mc f (nI (k + 1)) pO lO gn' ln fA wd sm lc od sh ev) : wX_buildGenerator_9 post bc rc fc mc (f + 1) (nI k) pO lO gn ln fA wd sm lc od sh ev := by
  refine br_f (nI_nlt (a := 4) hk (by omega)) ⟨k + 1, zx_b16 (P := P) hT hk h k (k + 1) gn (Nat.le_refl k) (by omega) (zd_Fc hg (fun j hj => ?_))⟩
  rw [if_neg (by omega)]
theorem zx_gen {post : SX → Prop} (hT : zf_T pO lO) (hg : ∀ j, j < 5 → gn j = nI 0) (h : ∀ gn', zd_A gn' 5 zc_G → post (bc, rc, fc, mc, pO, lO, gn', ln, fA, wd, sm, lc, od, sh, ev)) : wpX_buildGenerator post (bc, rc, fc, mc, pO, lO, gn, ln, fA, wd, sm, lc, od, sh, ev) := by
  refine nm_r (e' := upd gn 0 (nI 1)) (by rw [show vp_nar .byte 1 = nI 1 from zn_b' (v := 1) (by decide)]) ⟨5, ?_⟩
  have h1 : zd_A (upd gn 0 (nI 1)) 5 1 := by
    intro j hj
    show (if j = 0 then nI 1 else gn j) = nI (zd 1 j)
    by_cases q : j = 0
    · rw [if_pos q, q]; rfl
    · rw [if_neg q, hg j hj, zb_1 j hj q]
  refine zx_b9 (k := 1) hT h1 (by omega) (fun g1 k1 => zx_b9 (k := 2) hT k1 (by omega) (fun g2 k2 => zx_b9 (k := 3) hT k2 (by omega) (fun g3 k3 => zx_b9 (k := 4) hT k3 (by omega) (fun g4 k4 => ?_))))
  rw [zG_4] at k4
  exact br_t (nI_lt (a := 4) (b := 5) (by omega) (by omega)) (h g4 k4)
theorem zx_i89 {post : SX → Prop} (hg : ∀ j, j < 5 → gn j = nI 0) (h : ∀ pO' lO' gn', zf_T pO' lO' → zd_A gn' 5 zc_G → post (bc, rc, fc, mc, pO', lO', gn', ln, fA, wd, sm, lc, od, sh, ev)) :
    ∀ m i f (pO lO : Nat → Int32), i + m = 7 → m < f → (∀ k, k < i → pO k = nI (zf_pw k) ∧ pO (k + 7) = nI (zf_pw k)) → (∀ k, k < i → lO (zf_pw k) = nI k) → lO 0 = nI 0 → wX_init_89 post bc rc fc mc f (nI (zf_pw i)) (nI i) pO lO gn ln fA wd sm lc od sh ev := by
  intro m
  induction m with
  | zero =>
    intro i f pO lO hi hf h1 h2 h3
    obtain ⟨f, rfl⟩ : ∃ f', f = f' + 1 := ⟨f - 1, by omega⟩
    obtain rfl : i = 7 := by omega
    have hT := zf_T7 h1 h2 h3
    exact br_t (nI_le (a := 7) (by omega) (by omega)) (zx_gen hT hg (fun gn' hg' => h pO lO gn' hT hg'))
  | succ m ih =>
    intro i f pO lO hi hf h1 h2 h3
    obtain ⟨f, rfl⟩ : ∃ f', f = f' + 1 := ⟨f - 1, by omega⟩
    have hp8 := zf_pw_lt i
    have e7 : nI i + 7 = nI (i + 7) := nI_add i 7
    have hS := zf_pwS i (by omega)
    refine br_f (nI_ge (b := 7) (by omega) (by omega)) ⟨vp_in_nI (by omega) (by decide), ?_⟩
    rw [e7, nI_clamp (n := i) (by omega), nI_clamp (n := i + 7) (by omega), nI_clamp (n := zf_pw i) (by omega), zn_b hp8, zn_b (v := i) (by omega)]
    refine nm_e ⟨vp_in_nI (by omega) (by decide), nm_e ⟨vp_in_nI hp8 (by decide), nm_e ?_⟩⟩
    have hr := ih (i + 1) f (upd (upd pO i (nI (zf_pw i))) (i + 7) (nI (zf_pw i))) (upd lO (zf_pw i) (nI i)) (by omega) (by omega)
      (fun k hk => by
        by_cases q : k = i
        · subst q
          exact ⟨by rw [pk_un (by omega)]; exact pk_us, pk_us⟩
        · rw [pk_un (by omega), pk_un (by omega), pk_un (by omega), pk_un (by omega)]
          exact h1 k (by omega))
      (fun k hk => by
        by_cases q : k = i
        · subst q; exact pk_us
        · rw [pk_un (fun z => q (by rw [← zf_pwlg k (by omega), ← zf_pwlg i (by omega), z]))]
          exact h2 k (by omega))
      (by rw [pk_un (fun z => zf_pw0 i (by omega) z.symm)]; exact h3)
    rw [hS] at hr
    refine pk_le 4 (zf_pw i) (fun c => ?_) (fun c => ?_)
    · rw [if_neg (by omega)] at hr
      refine nm_r (e' := nI ((2 * zf_pw i) ^^^ 11)) ?_ (nm_r (nI_1 i) hr)
      rw [show 2 * nI (zf_pw i) = nI (2 * zf_pw i) from pk_mul 2 _]
      exact nx_xor _ 11
    · rw [if_pos c] at hr
      exact nm_r (pk_mul 2 _) (nm_r (nI_1 i) hr)
theorem zx_init {post : SX → Prop} (h : ∀ pO' lO' gn', zf_T pO' lO' → zd_A gn' 5 zc_G → post (0, 0, 0, 0, pO', lO', gn', fun _ => 0, fun _ => 0, fun _ => 0, fun _ => 0, fun _ => 0, fun _ => 0, fun _ => 0, fun _ => 0)) : wpX_init post :=
  ⟨8, zx_i89 (fun _ _ => rfl) h 7 0 8 _ _ rfl (by omega) (fun k hk => absurd hk (Nat.not_lt_zero k)) (fun k hk => absurd hk (Nat.not_lt_zero k)) rfl⟩
end
section
variable {yn yc yf : Int32} {yl yw yp ys : Nat → Int32}
theorem zy_i46 {post : SY → Prop} (h : ∀ yp', (∀ j, j < 7 → yp' j = nI (zf_pw j)) → post (yn, yc, yf, yl, yw, yp', ys)) :
    ∀ m i f (yp : Nat → Int32), i + m = 7 → m < f → (∀ j, j < i → yp j = nI (zf_pw j)) → wY_init_46 post yn yc yf f (nI (zf_pw i)) (nI i) yl yw yp ys := by
  intro m
  induction m with
  | zero =>
    intro i f yp hi hf h1
    obtain ⟨f, rfl⟩ : ∃ f', f = f' + 1 := ⟨f - 1, by omega⟩
    obtain rfl : i = 7 := by omega
    exact br_t (nI_le (a := 7) (by omega) (by omega)) (h yp h1)
  | succ m ih =>
    intro i f yp hi hf h1
    obtain ⟨f, rfl⟩ : ∃ f', f = f' + 1 := ⟨f - 1, by omega⟩
    refine br_f (nI_ge (b := 7) (by omega) (by omega)) ⟨vp_in_nI (by omega) (by decide), ?_⟩
    rw [nI_clamp (by omega)]
    refine nm_e (zy_prod (zf_pw i) 2 (zf_pw_lt _) (by omega) rfl rfl (nm_r (nI_1 i) ?_))
    rw [zf_gm2 i (by omega)]
    refine ih (i + 1) f _ (by omega) (by omega) (fun j hj => ?_)
    by_cases q : j = i
    · rw [q]; exact pk_us
    · rw [pk_un q]; exact h1 j (by omega)
theorem zy_init {post : SY → Prop} (h : ∀ yp', (∀ j, j < 7 → yp' j = nI (zf_pw j)) → post (0, 0, 0, fun _ => 0, fun _ => 0, yp', fun _ => 0)) : wpY_init post :=
  ⟨8, zy_i46 h 7 0 8 _ rfl (by omega) (fun k hk => absurd hk (Nat.not_lt_zero k))⟩
end
end
section
/-! drop, insert, flip on the line -/
def zl_dr (b : Nat → Bool) (k : Nat) : Nat → Nat → Bool
  | 0 => b
  | m + 1 => zl_dr (zl_u b k (b (k + 1))) (k + 1) m
def zl_in (b : Nat → Bool) (i : Nat) : Nat → Nat → Bool
  | 0 => b
  | d + 1 => zl_in (zl_u b (i + d + 1) (b (i + d))) i d
theorem zn_not (v : Bool) : 1 - nI v.toNat = nI (!v).toNat := by cases v <;> decide
section
variable {bc rc fc mc : Int32} {pO lO gn : Nat → Int32} {ln : Nat → Int64} {fA wd sm lc od sh ev : Nat → Int32}
theorem zx_dr12 {post : Int32 → SX → Prop} {n : Nat} {B : Nat → Bool} (hn : n < 300) (h : ∀ ln', zl_X ln' B → post (nI n) (nI n, 0, fc, mc, pO, lO, gn, ln', fA, wd, sm, lc, od, sh, ev)) :
    ∀ m k f (b : Nat → Bool) (ln : Nat → Int64), k + m = n → m < f → zl_X ln b → zl_dr b k m = B → wX_drop_12 post f (nI k) (nI (n + 1)) rc fc mc pO lO gn ln fA wd sm lc od sh ev := by
  intro m
  induction m with
  | zero =>
    intro k f b ln hk hf hl hB
    obtain ⟨f, rfl⟩ : ∃ f', f = f' + 1 := ⟨f - 1, by omega⟩
    obtain rfl : k = n := by omega
    have hB' : b = B := hB
    subst hB'
    have e := nI_pred k
    refine br_t (by rw [e]; exact nI_le (Nat.le_refl k) (by omega)) (nm_r e (h ln hl))
  | succ m ih =>
    intro k f b ln hk hf hl hB
    obtain ⟨f, rfl⟩ : ∃ f', f = f' + 1 := ⟨f - 1, by omega⟩
    refine br_f (by rw [nI_pred n]; exact nI_ge (by omega) (by omega)) (zx_bitAt (k + 1) hl (by omega) (nI_1 k) (zx_set k (b (k + 1)) hl (by omega) rfl rfl (fun ln' hl' => ?_)))
    exact nm_r (nI_1 k) (ih (k + 1) f _ ln' (by omega) (by omega) hl' hB)
theorem zx_in32 {post : Int32 → SX → Prop} {n i : Nat} {one : Bool} {B : Nat → Bool} (hn : n < 300) (hi : i ≤ n) (h : ∀ ln', zl_X ln' (zl_u B i one) → post (nI (n + 1)) (nI (n + 1), 0, fc, mc, pO, lO, gn, ln', fA, wd, sm, lc, od, sh, ev)) :
    ∀ d f (b : Nat → Bool) (ln : Nat → Int64), i + d ≤ n → d < f → zl_X ln b → zl_in b i d = B → wX_insert_32 post (nI i) (nI one.toNat) f (nI (i + d)) (nI n) rc fc mc pO lO gn ln fA wd sm lc od sh ev := by
  intro d
  induction d with
  | zero =>
    intro f b ln hd hf hl hB
    obtain ⟨f, rfl⟩ : ∃ f', f = f' + 1 := ⟨f - 1, by omega⟩
    have hB' : b = B := hB
    subst hB'
    refine br_t (nI_le (by omega) (by omega)) ?_
    cases one with
    | false => exact br_t nI_0 (zx_set i false hl (by omega) rfl rfl (fun ln' hl' => nm_r (nI_1 n) (h ln' hl')))
    | true => exact br_f (by decide) (zx_set i true hl (by omega) rfl rfl (fun ln' hl' => nm_r (nI_1 n) (h ln' hl')))
  | succ d ih =>
    intro f b ln hd hf hl hB
    obtain ⟨f, rfl⟩ : ∃ f', f = f' + 1 := ⟨f - 1, by omega⟩
    refine br_f (nI_ge (by omega) (by omega)) (zx_bitAt (i + d) hl (by omega) (nI_pred (i + d)) (zx_set (i + d + 1) (b (i + d)) hl (by omega) rfl rfl (fun ln' hl' => ?_)))
    exact nm_r (pk_m1 (i + d)) (ih f _ ln' (by omega) (by omega) hl' hB)
end
section
variable {yn yc yf : Int32} {yl yw yp ys : Nat → Int32}
theorem zy_dr12 {post : Int32 → SY → Prop} {n : Nat} {B : Nat → Bool} (hn : n < 300) (h : ∀ yl', zl_Y yl' B → post (nI n) (nI n, yc, yf, yl', yw, yp, ys)) :
    ∀ m k f (b : Nat → Bool) (yl : Nat → Int32), k + m = n → m < f → zl_Y yl b → zl_dr b k m = B → wY_drop_12 post (nI (n + 1)) yc yf f (nI k) yl yw yp ys := by
  intro m
  induction m with
  | zero =>
    intro k f b yl hk hf hl hB
    obtain ⟨f, rfl⟩ : ∃ f', f = f' + 1 := ⟨f - 1, by omega⟩
    obtain rfl : k = n := by omega
    have hB' : b = B := hB
    subst hB'
    have e := nI_pred k
    refine br_t (by rw [e]; exact nI_le (Nat.le_refl k) (by omega)) (nm_r e (h yl hl))
  | succ m ih =>
    intro k f b yl hk hf hl hB
    obtain ⟨f, rfl⟩ : ∃ f', f = f' + 1 := ⟨f - 1, by omega⟩
    refine br_f (by rw [nI_pred n]; exact nI_ge (by omega) (by omega)) ?_
    rw [nI_1 k, nI_clamp (n := k + 1) (by omega), nI_clamp (n := k) (by omega), hl (k + 1) (by omega), zn_B]
    exact ⟨vp_in_nI (by omega) (by decide), vp_in_nI (by omega) (by decide), nm_e (nm_e (ih (k + 1) f _ _ (by omega) (by omega) (zl_yu hl k _) hB))⟩
theorem zy_in32 {post : Int32 → SY → Prop} {n i : Nat} {one : Bool} {B : Nat → Bool} (hn : n < 300) (hi : i ≤ n) (h : ∀ yl', zl_Y yl' (zl_u B i one) → post (nI (n + 1)) (nI (n + 1), yc, yf, yl', yw, yp, ys)) :
    ∀ d f (b : Nat → Bool) (yl : Nat → Int32), i + d ≤ n → d < f → zl_Y yl b → zl_in b i d = B → wY_insert_32 post (nI i) (nI one.toNat) (nI n) yc yf f (nI (i + d)) yl yw yp ys := by
  intro d
  induction d with
  | zero =>
    intro f b yl hd hf hl hB
    obtain ⟨f, rfl⟩ : ∃ f', f = f' + 1 := ⟨f - 1, by omega⟩
    have hB' : b = B := hB
    subst hB'
    refine br_t (nI_le (by omega) (by omega)) ⟨vp_in_nI (by omega) (by decide), ?_⟩
    rw [nI_clamp (by omega), zn_B]
    exact nm_e (nm_r (nI_1 n) (h _ (zl_yu hl i one)))
  | succ d ih =>
    intro f b yl hd hf hl hB
    obtain ⟨f, rfl⟩ : ∃ f', f = f' + 1 := ⟨f - 1, by omega⟩
    refine br_f (nI_ge (by omega) (by omega)) ?_
    have e : nI (i + (d + 1)) - 1 = nI (i + d) := nI_pred (i + d)
    rw [e, nI_clamp (n := i + d) (by omega), nI_clamp (n := i + (d + 1)) (by omega), hl (i + d) (by omega), zn_B]
    exact ⟨vp_in_nI (by omega) (by decide), vp_in_nI (by omega) (by decide), nm_e (nm_r (pk_m1 (i + d)) (ih f _ _ (by omega) (by omega) (zl_yu hl _ _) hB))⟩
end
end
section
/-! each public method, once a side, over a general post -/
section
variable {bc rc fc mc : Int32} {pO lO gn : Nat → Int32} {ln : Nat → Int64} {fA wd sm lc od sh ev : Nat → Int32}
variable {n : Nat} {b : Nat → Bool}
theorem zx_flipN {post : Int32 → SX → Prop} {v1 : Int32} (h : v1 < 0 ∨ bc ≤ v1) (hp : post (-1) (bc, rc, fc, mc, pO, lO, gn, ln, fA, wd, sm, lc, od, sh, ev)) : wpX_flip post (bc, rc, fc, mc, pO, lO, gn, ln, fA, wd, sm, lc, od, sh, ev) v1 := by
  unfold wpX_flip
  exact zx_noBit h (br_t rfl hp)
theorem zx_flipI {post : Int32 → SX → Prop} {i : Nat} (hn : n ≤ 300) (hl : zl_X ln b) (hi : i < n) (hp : ∀ ln', zl_X ln' (zl_u b i (!b i)) → post (nI (!b i).toNat) (nI n, 0, fc, mc, pO, lO, gn, ln', fA, wd, sm, lc, od, sh, ev)) : wpX_flip post (nI n, rc, fc, mc, pO, lO, gn, ln, fA, wd, sm, lc, od, sh, ev) (nI i) := by
  unfold wpX_flip
  refine zx_isBit hn hi rfl rfl (br_f (by decide) (zx_bitAt i hl (by omega) rfl (nm_r (zn_not _) (zx_set i (!b i) hl (by omega) rfl rfl (fun ln' hl' => ?_)))))
  exact hp ln' hl'
theorem zx_bitN {post : Int32 → Prop} {v1 : Int32} (h : v1 < 0 ∨ bc ≤ v1) (hp : post (-1)) : wpX_bit post (bc, rc, fc, mc, pO, lO, gn, ln, fA, wd, sm, lc, od, sh, ev) v1 := by
  unfold wpX_bit
  exact zx_noBit h (br_t rfl hp)
theorem zx_bitI {post : Int32 → Prop} {i : Nat} (hn : n ≤ 300) (hl : zl_X ln b) (hi : i < n) (hp : post (nI (b i).toNat)) : wpX_bit post (nI n, rc, fc, mc, pO, lO, gn, ln, fA, wd, sm, lc, od, sh, ev) (nI i) := by
  unfold wpX_bit
  exact zx_isBit hn hi rfl rfl (br_f (by decide) (zx_bitAt i hl (by omega) rfl hp))
theorem zx_dropN {post : Int32 → SX → Prop} {v1 : Int32} (h : v1 < 0 ∨ bc ≤ v1) (hp : post (-1) (bc, rc, fc, mc, pO, lO, gn, ln, fA, wd, sm, lc, od, sh, ev)) : wpX_drop post (bc, rc, fc, mc, pO, lO, gn, ln, fA, wd, sm, lc, od, sh, ev) v1 := by
  unfold wpX_drop
  exact zx_noBit h (br_t rfl hp)
theorem zx_dropI {post : Int32 → SX → Prop} {i : Nat} (hn : n + 1 ≤ 300) (hl : zl_X ln b) (hi : i < n + 1) (hp : ∀ ln', zl_X ln' (zl_dr b i (n - i)) → post (nI n) (nI n, 0, fc, mc, pO, lO, gn, ln', fA, wd, sm, lc, od, sh, ev)) : wpX_drop post (nI (n + 1), rc, fc, mc, pO, lO, gn, ln, fA, wd, sm, lc, od, sh, ev) (nI i) := by
  unfold wpX_drop
  exact zx_isBit hn hi rfl rfl (br_f (by decide) ⟨n - i + 1, zx_dr12 (by omega) hp (n - i) i _ b ln (by omega) (by omega) hl rfl⟩)
theorem zx_framesP {post : Int32 → SX → Prop} (hl : zl_X ln b) (hn : n ≤ 300) (hr : rc = 0 ∨ (rc = 1 ∧ fc = nI (zr_F n b).1 ∧ zd_F fA (zr_F n b).1 (zr_F n b).2))
    (h : ∀ fA', zd_F fA' (zr_F n b).1 (zr_F n b).2 → post (nI (zr_F n b).1) (nI n, 1, nI (zr_F n b).1, mc, pO, lO, gn, ln, fA', wd, sm, lc, od, sh, ev)) : wpX_frames post (nI n, rc, fc, mc, pO, lO, gn, ln, fA, wd, sm, lc, od, sh, ev) := by
  unfold wpX_frames
  exact zx_recv hl hn hr (fun fA' hf => h fA' hf)
theorem zx_placeN {post : Int32 → SX → Prop} {v1 : Int32} (hl : zl_X ln b) (hn : n ≤ 300) (hr : rc = 0 ∨ (rc = 1 ∧ fc = nI (zr_F n b).1 ∧ zd_F fA (zr_F n b).1 (zr_F n b).2)) (hv : v1 < 0 ∨ nI (zr_F n b).1 ≤ v1)
    (h : ∀ fA', zd_F fA' (zr_F n b).1 (zr_F n b).2 → post (-1) (nI n, 1, nI (zr_F n b).1, mc, pO, lO, gn, ln, fA', wd, sm, lc, od, sh, ev)) : wpX_place post (nI n, rc, fc, mc, pO, lO, gn, ln, fA, wd, sm, lc, od, sh, ev) v1 := by
  unfold wpX_place
  refine zx_recv hl hn hr (fun fA' hf => ?_)
  by_cases q : v1 < 0
  · exact br_t q (h fA' hf)
  · exact br_f q (br_f (Int32.not_lt.mpr (hv.resolve_left q)) (h fA' hf))
theorem zx_placeI {post : Int32 → SX → Prop} {j : Nat} (hl : zl_X ln b) (hn : n ≤ 300) (hr : rc = 0 ∨ (rc = 1 ∧ fc = nI (zr_F n b).1 ∧ zd_F fA (zr_F n b).1 (zr_F n b).2)) (hj : j < (zr_F n b).1)
    (h : ∀ fA', zd_F fA' (zr_F n b).1 (zr_F n b).2 → post (nI ((zr_F n b).2 j)) (nI n, 1, nI (zr_F n b).1, mc, pO, lO, gn, ln, fA', wd, sm, lc, od, sh, ev)) : wpX_place post (nI n, rc, fc, mc, pO, lO, gn, ln, fA, wd, sm, lc, od, sh, ev) (nI j) := by
  have h6 := (zr_F_ok b hn).1
  unfold wpX_place
  refine zx_recv hl hn hr (fun fA' hf => br_f (nI_pos (by omega)) (br_t (nI_lt hj (by omega)) ⟨vp_in_nI (by omega) (by decide), ?_⟩))
  rw [nI_clamp (by omega), hf j hj]
  exact h fA' hf
theorem zx_messageN {post : Int32 → SX → Prop} {v1 : Int32} (hl : zl_X ln b) (hn : n ≤ 300) (hr : rc = 0 ∨ (rc = 1 ∧ fc = nI (zr_F n b).1 ∧ zd_F fA (zr_F n b).1 (zr_F n b).2)) (hv : v1 < 0 ∨ nI (zr_F n b).1 ≤ v1)
    (h : ∀ fA', zd_F fA' (zr_F n b).1 (zr_F n b).2 → post (-1) (nI n, 1, nI (zr_F n b).1, mc, pO, lO, gn, ln, fA', wd, sm, lc, od, sh, ev)) : wpX_message post (nI n, rc, fc, mc, pO, lO, gn, ln, fA, wd, sm, lc, od, sh, ev) v1 := by
  unfold wpX_message
  refine zx_recv hl hn hr (fun fA' hf => ?_)
  by_cases q : v1 < 0
  · exact br_t q (h fA' hf)
  · exact br_f q (br_f (Int32.not_lt.mpr (hv.resolve_left q)) (h fA' hf))
theorem zx_messageI {post : Int32 → SX → Prop} {j : Nat} (hT : zf_T pO lO) (hl : zl_X ln b) (hn : n ≤ 300) (hr : rc = 0 ∨ (rc = 1 ∧ fc = nI (zr_F n b).1 ∧ zd_F fA (zr_F n b).1 (zr_F n b).2)) (hj : j < (zr_F n b).1)
    (h : ∀ fA', zd_F fA' (zr_F n b).1 (zr_F n b).2 → ∀ (mc : Int32) (wd sm lc od sh ev : Nat → Int32), post (zg_r b ((zr_F n b).2 j)) (nI n, 1, nI (zr_F n b).1, mc, pO, lO, gn, ln, fA', wd, sm, lc, od, sh, ev)) : wpX_message post (nI n, rc, fc, mc, pO, lO, gn, ln, fA, wd, sm, lc, od, sh, ev) (nI j) := by
  have h6 := (zr_F_ok b hn).1
  unfold wpX_message
  refine zx_recv hl hn hr (fun fA' hf => br_f (nI_pos (by omega)) (br_t (nI_lt hj (by omega)) ⟨3, ?_⟩))
  exact zx_msg hT hl (by omega) (hf j hj) ((zr_F_ok b hn).2 j hj) (h fA' hf)
theorem zx_mendedN {post : Int32 → SX → Prop} {v1 : Int32} (hl : zl_X ln b) (hn : n ≤ 300) (hr : rc = 0 ∨ (rc = 1 ∧ fc = nI (zr_F n b).1 ∧ zd_F fA (zr_F n b).1 (zr_F n b).2)) (hv : v1 < 0 ∨ nI (zr_F n b).1 ≤ v1)
    (h : ∀ fA', zd_F fA' (zr_F n b).1 (zr_F n b).2 → post (-1) (nI n, 1, nI (zr_F n b).1, mc, pO, lO, gn, ln, fA', wd, sm, lc, od, sh, ev)) : wpX_mended post (nI n, rc, fc, mc, pO, lO, gn, ln, fA, wd, sm, lc, od, sh, ev) v1 := by
  unfold wpX_mended
  refine zx_recv hl hn hr (fun fA' hf => ?_)
  by_cases q : v1 < 0
  · exact br_t q (h fA' hf)
  · exact br_f q (br_f (Int32.not_lt.mpr (hv.resolve_left q)) (h fA' hf))
theorem zx_mendedI {post : Int32 → SX → Prop} {j : Nat} (hT : zf_T pO lO) (hl : zl_X ln b) (hn : n ≤ 300) (hr : rc = 0 ∨ (rc = 1 ∧ fc = nI (zr_F n b).1 ∧ zd_F fA (zr_F n b).1 (zr_F n b).2)) (hj : j < (zr_F n b).1)
    (h : ∀ fA', zd_F fA' (zr_F n b).1 (zr_F n b).2 → ∀ (mc : Int32) (wd sm lc od sh ev : Nat → Int32), post (nI (zg_cn b ((zr_F n b).2 j) 0 + zg_cn b ((zr_F n b).2 j) 1)) (nI n, 1, nI (zr_F n b).1, mc, pO, lO, gn, ln, fA', wd, sm, lc, od, sh, ev)) : wpX_mended post (nI n, rc, fc, mc, pO, lO, gn, ln, fA, wd, sm, lc, od, sh, ev) (nI j) := by
  have h6 := (zr_F_ok b hn).1
  unfold wpX_mended
  refine zx_recv hl hn hr (fun fA' hf => br_f (nI_pos (by omega)) (br_t (nI_lt hj (by omega)) ⟨3, ?_⟩))
  exact zx_cnt hT hl (by omega) (hf j hj) ((zr_F_ok b hn).2 j hj) (h fA' hf)
theorem zx_goodP {post : Int32 → SX → Prop} (hT : zf_T pO lO) (hl : zl_X ln b) (hn : n ≤ 300) (hr : rc = 0 ∨ (rc = 1 ∧ fc = nI (zr_F n b).1 ∧ zd_F fA (zr_F n b).1 (zr_F n b).2))
    (h : ∀ fA', zd_F fA' (zr_F n b).1 (zr_F n b).2 → ∀ (mc : Int32) (wd sm lc od sh ev : Nat → Int32), post (nI (zg_n (zr_F n b).2 b (zr_F n b).1)) (nI n, 1, nI (zr_F n b).1, mc, pO, lO, gn, ln, fA', wd, sm, lc, od, sh, ev)) : wpX_good post (nI n, rc, fc, mc, pO, lO, gn, ln, fA, wd, sm, lc, od, sh, ev) := by
  have h6 := zr_F_ok b hn
  unfold wpX_good
  refine zx_recv hl hn hr (fun fA' hf => ⟨(zr_F n b).1 + 1, ?_⟩)
  exact zx_good8 hT hl h6.1 (fun k hk => ⟨hf k hk, h6.2 k hk⟩) (h fA' hf) (zr_F n b).1 0 _ mc wd sm lc od sh ev (by omega) (by omega)
end
section
variable {yn yc yf : Int32} {yl yw yp ys : Nat → Int32}
variable {n : Nat} {b : Nat → Bool}
theorem zy_flipN {post : Int32 → SY → Prop} {v1 : Int32} (h : v1 < 0 ∨ yn ≤ v1) (hp : post (-1) (yn, yc, yf, yl, yw, yp, ys)) : wpY_flip post (yn, yc, yf, yl, yw, yp, ys) v1 := by
  unfold wpY_flip
  exact zy_noBit h (br_t rfl hp)
theorem zy_fl29 {post : Int32 → SY → Prop} {i : Nat} (v : Bool) (hl : zl_Y yl b) (hi : i < 300) (hp : ∀ yl', zl_Y yl' (zl_u b i v) → post (nI v.toNat) (yn, yc, yf, yl', yw, yp, ys)) : wY_flip_29 post (nI i) (nI v.toNat) (nI i) yn yc yf yl yw yp ys := by
  have hv : vp_in (nI i) 300 := vp_in_nI hi (by decide)
  refine ⟨hv, ?_⟩
  rw [nI_clamp (by omega), zn_B]
  have hk := hp _ (zl_yu hl i v)
  refine nm_e ⟨hv, ?_⟩
  rw [pk_us]
  cases v with
  | false => exact br_t nI_0 hk
  | true => exact br_f (by decide) hk
theorem zy_flipI {post : Int32 → SY → Prop} {i : Nat} (hn : n ≤ 300) (hl : zl_Y yl b) (hi : i < n) (hp : ∀ yl', zl_Y yl' (zl_u b i (!b i)) → post (nI (!b i).toNat) (nI n, yc, yf, yl', yw, yp, ys)) : wpY_flip post (nI n, yc, yf, yl, yw, yp, ys) (nI i) := by
  unfold wpY_flip
  refine zy_isBit hn hi rfl rfl (br_f (by decide) ⟨vp_in_nI (by omega) (by decide), ?_⟩)
  rw [nI_clamp (by omega), hl i (by omega)]
  cases e : b i with
  | false =>
    rw [e] at hp
    exact br_t nI_0 (zy_fl29 true hl (by omega) hp)
  | true =>
    rw [e] at hp
    exact br_f (by decide) (zy_fl29 false hl (by omega) hp)
theorem zy_bitN {post : Int32 → Prop} {v1 : Int32} (h : v1 < 0 ∨ yn ≤ v1) (hp : post (-1)) : wpY_bit post (yn, yc, yf, yl, yw, yp, ys) v1 := by
  unfold wpY_bit
  exact zy_noBit h (br_t rfl hp)
theorem zy_bitI {post : Int32 → Prop} {i : Nat} (hn : n ≤ 300) (hl : zl_Y yl b) (hi : i < n) (hp : post (nI (b i).toNat)) : wpY_bit post (nI n, yc, yf, yl, yw, yp, ys) (nI i) := by
  unfold wpY_bit
  refine zy_isBit hn hi rfl rfl (br_f (by decide) ⟨vp_in_nI (by omega) (by decide), ?_⟩)
  rw [nI_clamp (by omega), hl i (by omega)]
  cases e : b i with
  | false => rw [e] at hp; exact br_t nI_0 hp
  | true => rw [e] at hp; exact br_f (by decide) hp
theorem zy_dropN {post : Int32 → SY → Prop} {v1 : Int32} (h : v1 < 0 ∨ yn ≤ v1) (hp : post (-1) (yn, yc, yf, yl, yw, yp, ys)) : wpY_drop post (yn, yc, yf, yl, yw, yp, ys) v1 := by
  unfold wpY_drop
  exact zy_noBit h (br_t rfl hp)
theorem zy_dropI {post : Int32 → SY → Prop} {i : Nat} (hn : n + 1 ≤ 300) (hl : zl_Y yl b) (hi : i < n + 1) (hp : ∀ yl', zl_Y yl' (zl_dr b i (n - i)) → post (nI n) (nI n, yc, yf, yl', yw, yp, ys)) : wpY_drop post (nI (n + 1), yc, yf, yl, yw, yp, ys) (nI i) := by
  unfold wpY_drop
  exact zy_isBit hn hi rfl rfl (br_f (by decide) ⟨n - i + 1, zy_dr12 (by omega) hp (n - i) i _ b yl (by omega) (by omega) hl rfl⟩)
theorem zy_framesP {post : Int32 → SY → Prop} (hl : zl_Y yl b) (hn : n ≤ 300)
    (h : ∀ ys', post (nI (zr_F n b).1) (nI n, yc, nI (zr_F n b).1, yl, yw, yp, ys')) : wpY_frames post (nI n, yc, yf, yl, yw, yp, ys) := by
  unfold wpY_frames
  exact zy_recv hl hn (fun ys' _ => h ys')
theorem zy_placeN {post : Int32 → SY → Prop} {v1 : Int32} (hl : zl_Y yl b) (hn : n ≤ 300) (hv : v1 < 0 ∨ nI (zr_F n b).1 ≤ v1)
    (h : ∀ ys', post (-1) (nI n, yc, nI (zr_F n b).1, yl, yw, yp, ys')) : wpY_place post (nI n, yc, yf, yl, yw, yp, ys) v1 := by
  unfold wpY_place
  refine zy_recv hl hn (fun ys' hf => ?_)
  by_cases q : v1 < 0
  · exact br_t q (h ys')
  · exact br_f q (br_t (hv.resolve_left q) (h ys'))
theorem zy_placeI {post : Int32 → SY → Prop} {j : Nat} (hl : zl_Y yl b) (hn : n ≤ 300) (hj : j < (zr_F n b).1)
    (h : ∀ ys', post (nI ((zr_F n b).2 j)) (nI n, yc, nI (zr_F n b).1, yl, yw, yp, ys')) : wpY_place post (nI n, yc, yf, yl, yw, yp, ys) (nI j) := by
  have h6 := (zr_F_ok b hn).1
  unfold wpY_place
  refine zy_recv hl hn (fun ys' hf => br_f (nI_pos (by omega)) (br_f (nI_ge hj (by omega)) ⟨vp_in_nI (by omega) (by decide), ?_⟩))
  rw [nI_clamp (by omega), hf j hj]
  exact h ys'
theorem zy_messageN {post : Int32 → SY → Prop} {v1 : Int32} (hl : zl_Y yl b) (hn : n ≤ 300) (hv : v1 < 0 ∨ nI (zr_F n b).1 ≤ v1)
    (h : ∀ ys', post (-1) (nI n, yc, nI (zr_F n b).1, yl, yw, yp, ys')) : wpY_message post (nI n, yc, yf, yl, yw, yp, ys) v1 := by
  unfold wpY_message
  refine zy_recv hl hn (fun ys' hf => ?_)
  by_cases q : v1 < 0
  · exact br_t q (h ys')
  · exact br_f q (br_t (hv.resolve_left q) (h ys'))
theorem zy_messageI {post : Int32 → SY → Prop} {j : Nat} (hp : ∀ j, j < 7 → yp j = nI (zf_pw j)) (hl : zl_Y yl b) (hn : n ≤ 300) (hj : j < (zr_F n b).1)
    (h : ∀ ys' yc' yw', post (zg_r b ((zr_F n b).2 j)) (nI n, yc', nI (zr_F n b).1, yl, yw', yp, ys')) : wpY_message post (nI n, yc, yf, yl, yw, yp, ys) (nI j) := by
  have h6 := (zr_F_ok b hn).1
  unfold wpY_message
  refine zy_recv hl hn (fun ys' hf => br_f (nI_pos (by omega)) (br_f (nI_ge hj (by omega)) ⟨vp_in_nI (by omega) (by decide), ?_⟩))
  rw [nI_clamp (by omega)]
  exact zy_dec _ hp hl ((zr_F_ok b hn).2 j hj) (hf j hj) (fun yw' => h ys' _ yw')
theorem zy_mendedN {post : Int32 → SY → Prop} {v1 : Int32} (hl : zl_Y yl b) (hn : n ≤ 300) (hv : v1 < 0 ∨ nI (zr_F n b).1 ≤ v1)
    (h : ∀ ys', post (-1) (nI n, yc, nI (zr_F n b).1, yl, yw, yp, ys')) : wpY_mended post (nI n, yc, yf, yl, yw, yp, ys) v1 := by
  unfold wpY_mended
  refine zy_recv hl hn (fun ys' hf => ?_)
  by_cases q : v1 < 0
  · exact br_t q (h ys')
  · exact br_f q (br_f (Int32.not_lt.mpr (hv.resolve_left q)) (h ys'))
theorem zy_mendedI {post : Int32 → SY → Prop} {j : Nat} (hp : ∀ j, j < 7 → yp j = nI (zf_pw j)) (hl : zl_Y yl b) (hn : n ≤ 300) (hj : j < (zr_F n b).1)
    (h : ∀ ys' yc' yw', post (nI (zg_cn b ((zr_F n b).2 j) 0 + zg_cn b ((zr_F n b).2 j) 1)) (nI n, yc', nI (zr_F n b).1, yl, yw', yp, ys')) : wpY_mended post (nI n, yc, yf, yl, yw, yp, ys) (nI j) := by
  have h6 := (zr_F_ok b hn).1
  unfold wpY_mended
  refine zy_recv hl hn (fun ys' hf => br_f (nI_pos (by omega)) (br_t (nI_lt hj (by omega)) ⟨vp_in_nI (by omega) (by decide), ?_⟩))
  rw [nI_clamp (by omega)]
  exact zy_dec _ hp hl ((zr_F_ok b hn).2 j hj) (hf j hj) (fun yw' => h ys' _ yw')
theorem zy_goodP {post : Int32 → SY → Prop} (hp : ∀ j, j < 7 → yp j = nI (zf_pw j)) (hl : zl_Y yl b) (hn : n ≤ 300)
    (h : ∀ ys' yc' yw', post (nI (zg_n (zr_F n b).2 b (zr_F n b).1)) (nI n, yc', nI (zr_F n b).1, yl, yw', yp, ys')) : wpY_good post (nI n, yc, yf, yl, yw, yp, ys) := by
  have h6 := zr_F_ok b hn
  unfold wpY_good
  refine zy_recv hl hn (fun ys' hf => ⟨(zr_F n b).1 + 1, ?_⟩)
  exact zy_good8 hp hl h6.1 (fun k hk => ⟨hf k hk, h6.2 k hk⟩) (fun yc' yw' => h ys' yc' yw') (zr_F n b).1 0 _ yc yw (by omega) (by omega)
end
end
section
/-! the relation and what is owed -/
def zz_RX (n : Nat) (b : Nat → Bool) (u : SX) : Prop := match u with
  | (bc, rc, fc, mc, pO, lO, gn, ln, fA, wd, sm, lc, od, sh, ev) => n ≤ 300 ∧ bc = nI n ∧ zf_T pO lO ∧ zd_A gn 5 zc_G ∧ zl_X ln b ∧ (rc = 0 ∨ (rc = 1 ∧ fc = nI (zr_F n b).1 ∧ zd_F fA (zr_F n b).1 (zr_F n b).2))
def zz_RY (n : Nat) (b : Nat → Bool) (v : SY) : Prop := match v with
  | (yn, yc, yf, yl, yw, yp, ys) => yn = nI n ∧ zl_Y yl b ∧ ∀ j, j < 7 → yp j = nI (zf_pw j)
/-- the two lines hold the same n bits; the tables stand; what the class keeps of the last receiving is that of the line -/
def i_Rel (_ : Nat) (u : SX) (v : SY) : Prop := ∃ (n : Nat) (b : Nat → Bool), zz_RX n b u ∧ zz_RY n b v
theorem i_up {k : Nat} {u : SX} {v : SY} (h : i_Rel k u v) : i_Rel (k + 3) u v := h
section
variable {bc rc fc mc : Int32} {pO lO gn : Nat → Int32} {ln : Nat → Int64} {fA wd sm lc od sh ev : Nat → Int32}
variable {yn yc yf : Int32} {yl yw yp ys : Nat → Int32}
theorem zz_mk0 {k n : Nat} {b : Nat → Bool} (hn : n ≤ 300) (hT : zf_T pO lO) (hG : zd_A gn 5 zc_G) (hl : zl_X ln b) (hy : zl_Y yl b) (hp : ∀ j, j < 7 → yp j = nI (zf_pw j)) : i_Rel k (nI n, 0, fc, mc, pO, lO, gn, ln, fA, wd, sm, lc, od, sh, ev) (nI n, yc, yf, yl, yw, yp, ys) :=
  ⟨n, b, ⟨hn, rfl, hT, hG, hl, Or.inl rfl⟩, rfl, hy, hp⟩
theorem zz_mk1 {k n : Nat} {b : Nat → Bool} (hn : n ≤ 300) (hT : zf_T pO lO) (hG : zd_A gn 5 zc_G) (hl : zl_X ln b) (hf : zd_F fA (zr_F n b).1 (zr_F n b).2) (hy : zl_Y yl b) (hp : ∀ j, j < 7 → yp j = nI (zf_pw j)) : i_Rel k (nI n, 1, nI (zr_F n b).1, mc, pO, lO, gn, ln, fA, wd, sm, lc, od, sh, ev) (nI n, yc, yf, yl, yw, yp, ys) :=
  ⟨n, b, ⟨hn, rfl, hT, hG, hl, Or.inr ⟨rfl, rfl, hf⟩⟩, rfl, hy, hp⟩
end
theorem i_vc0 : wpX_init (fun u => wpY_init (fun v => i_Rel 0 u v)) := by
  refine zx_init (fun pO lO gn hT hG => zy_init (fun yp hp => ?_))
  refine zz_mk0 (n := 0) (b := fun _ => false) (by omega) hT hG (fun i _ => ?_) (fun i _ => rfl) hp
  exact BitVec.getLsbD_zero
theorem i_vc_send {k : Nat} {u : SX} {v : SY} (I : i_Rel k u v) (hk : k + 3 ≤ 1536) (v1 : Int32) : wpX_send (fun r u' => wpY_send (fun r' v' => r' = r ∧ i_Rel (k + 3) u' v') v v1) u v1 := by
  obtain ⟨bc, rc, fc, mc, pO, lO, gn, ln, fA, wd, sm, lc, od, sh, ev⟩ := u
  obtain ⟨yn, yc, yf, yl, yw, yp, ys⟩ := v
  have I' := I
  obtain ⟨n, b, ⟨hn, rfl, hT, hG, hl, hr⟩, rfl, hy, hp⟩ := I'
  by_cases h0 : v1 < 0
  · exact br_t h0 (br_t h0 ⟨rfl, I⟩)
  · by_cases h1 : v1 ≤ 262143
    · obtain ⟨msg, hmsg, rfl⟩ := nI_of h0
      by_cases h2 : n + 50 ≤ 300
      · have h2' : nI n + 50 ≤ 300 := by
          rw [show nI n + 50 = nI (n + 50) from nI_add n 50]
          exact nI_le (b := 300) h2 (by omega)
        refine br_f h0 (br_t h1 (br_t h2' (nm_r (nI_add n 50) ⟨9, zx_se46 (b := b) hT hG hmsg h2 (fun ln' wd' hl' => ?_) 8 0 9 ln rfl (by omega) hl⟩)))
        refine br_f h0 (br_t h1 (br_t h2' ⟨9, zy_se30 (b := b) hp hmsg h2 (fun yl' yw' hy' => ?_) 8 0 9 yl rfl (by omega) hy⟩))
        exact ⟨rfl, zz_mk0 h2 hT hG hl' hy' hp⟩
      · have h2' : ¬ nI n + 50 ≤ 300 := by
          rw [show nI n + 50 = nI (n + 50) from nI_add n 50]
          exact nI_ge (a := 300) (by omega) (by omega)
        exact br_f h0 (br_t h1 (br_f h2' (br_f h0 (br_t h1 (br_f h2' ⟨rfl, I⟩)))))
    · exact br_f h0 (br_f h1 (br_f h0 (br_f h1 ⟨rfl, I⟩)))
theorem i_vc_flip {k : Nat} {u : SX} {v : SY} (I : i_Rel k u v) (hk : k + 3 ≤ 1536) (v1 : Int32) : wpX_flip (fun r u' => wpY_flip (fun r' v' => r' = r ∧ i_Rel (k + 3) u' v') v v1) u v1 := by
  obtain ⟨bc, rc, fc, mc, pO, lO, gn, ln, fA, wd, sm, lc, od, sh, ev⟩ := u
  obtain ⟨yn, yc, yf, yl, yw, yp, ys⟩ := v
  have I' := I
  obtain ⟨n, b, ⟨hn, rfl, hT, hG, hl, hr⟩, rfl, hy, hp⟩ := I'
  rcases pk_ix v1 (n := n) (by omega) with h | h | ⟨i, hi, rfl⟩
  · exact zx_flipN (Or.inl h) (zy_flipN (Or.inl h) ⟨rfl, I⟩)
  · exact zx_flipN (Or.inr h) (zy_flipN (Or.inr h) ⟨rfl, I⟩)
  · exact zx_flipI hn hl hi (fun ln' hl' => zy_flipI hn hy hi (fun yl' hy' => ⟨rfl, zz_mk0 hn hT hG hl' hy' hp⟩))
theorem i_vc_drop {k : Nat} {u : SX} {v : SY} (I : i_Rel k u v) (hk : k + 3 ≤ 1536) (v1 : Int32) : wpX_drop (fun r u' => wpY_drop (fun r' v' => r' = r ∧ i_Rel (k + 3) u' v') v v1) u v1 := by
  obtain ⟨bc, rc, fc, mc, pO, lO, gn, ln, fA, wd, sm, lc, od, sh, ev⟩ := u
  obtain ⟨yn, yc, yf, yl, yw, yp, ys⟩ := v
  have I' := I
  obtain ⟨n, b, ⟨hn, rfl, hT, hG, hl, hr⟩, rfl, hy, hp⟩ := I'
  rcases pk_ix v1 (n := n) (by omega) with h | h | ⟨i, hi, rfl⟩
  · exact zx_dropN (Or.inl h) (zy_dropN (Or.inl h) ⟨rfl, I⟩)
  · exact zx_dropN (Or.inr h) (zy_dropN (Or.inr h) ⟨rfl, I⟩)
  · obtain ⟨n, rfl⟩ : ∃ n', n = n' + 1 := ⟨n - 1, by omega⟩
    exact zx_dropI hn hl hi (fun ln' hl' => zy_dropI hn hy hi (fun yl' hy' => ⟨rfl, zz_mk0 (by omega) hT hG hl' hy' hp⟩))
theorem i_vc_insert {k : Nat} {u : SX} {v : SY} (I : i_Rel k u v) (hk : k + 3 ≤ 1536) (v1 : Int32) (v2 : Int32) : wpX_insert (fun r u' => wpY_insert (fun r' v' => r' = r ∧ i_Rel (k + 3) u' v') v v1 (lw_bz v2)) u v1 (lw_bz v2) := by
  obtain ⟨bc, rc, fc, mc, pO, lO, gn, ln, fA, wd, sm, lc, od, sh, ev⟩ := u
  obtain ⟨yn, yc, yf, yl, yw, yp, ys⟩ := v
  have I' := I
  obtain ⟨n, b, ⟨hn, rfl, hT, hG, hl, hr⟩, rfl, hy, hp⟩ := I'
  obtain ⟨one, e1⟩ : ∃ one : Bool, lw_bz v2 = nI one.toNat := by
    rcases lw_bz_01 v2 with h | h
    · exact ⟨false, h⟩
    · exact ⟨true, h⟩
  rw [e1]
  by_cases h0 : v1 < 0
  · exact br_t h0 (br_t h0 ⟨rfl, I⟩)
  · obtain ⟨i, hi, rfl⟩ := nI_of h0
    by_cases h1 : i ≤ n
    · have h1' : nI i ≤ nI n := nI_le h1 (by omega)
      by_cases h2 : n < 300
      · have h2' : nI n < 300 := nI_lt (b := 300) h2 (by omega)
        have h3' : ¬ nI n = 300 := fun q => by have := (nI_eq (b := 300) (by omega) (by omega)).mp q; omega
        have en : i + (n - i) = n := by omega
        have hx := fun (post : Int32 → SX → Prop) hp => zx_in32 (post := post) (one := one) (mc := mc) (fc := fc) (rc := rc) (pO := pO) (lO := lO) (gn := gn) (fA := fA) (wd := wd) (sm := sm) (lc := lc) (od := od) (sh := sh) (ev := ev) h2 h1 hp (n - i) (n - i + 1) b ln (by omega) (by omega) hl rfl
        have hyy := fun (post : Int32 → SY → Prop) hp => zy_in32 (post := post) (one := one) (yc := yc) (yf := yf) (yw := yw) (yp := yp) (ys := ys) h2 h1 hp (n - i) (n - i + 1) b yl (by omega) (by omega) hy rfl
        rw [en] at hx hyy
        refine br_f h0 (br_t h1' (br_t h2' ⟨_, hx _ (fun ln' hl' => ?_)⟩))
        refine br_f h0 (br_t h1' (br_f h3' ⟨_, hyy _ (fun yl' hy' => ?_)⟩))
        exact ⟨rfl, zz_mk0 (by omega) hT hG hl' hy' hp⟩
      · have h2' : ¬ nI n < 300 := nI_nlt (b := 300) (by omega) (by omega)
        have h3' : nI n = 300 := (nI_eq (b := 300) (by omega) (by omega)).mpr (by omega)
        exact br_f h0 (br_t h1' (br_f h2' (br_f h0 (br_t h1' (br_t h3' ⟨rfl, I⟩)))))
    · have h1' : ¬ nI i ≤ nI n := nI_ge (by omega) (by omega)
      exact br_f h0 (br_f h1' (br_f h0 (br_f h1' ⟨rfl, I⟩)))
theorem i_vc_clear {k : Nat} {u : SX} {v : SY} (I : i_Rel k u v) (hk : k + 3 ≤ 1536) : wpX_clear (fun r u' => wpY_clear (fun r' v' => r' = r ∧ i_Rel (k + 3) u' v') v) u := by
  obtain ⟨bc, rc, fc, mc, pO, lO, gn, ln, fA, wd, sm, lc, od, sh, ev⟩ := u
  obtain ⟨yn, yc, yf, yl, yw, yp, ys⟩ := v
  obtain ⟨n, b, ⟨hn, rfl, hT, hG, hl, hr⟩, rfl, hy, hp⟩ := I
  exact ⟨rfl, zz_mk0 (n := 0) (by omega) hT hG hl hy hp⟩
theorem i_vc_bits {k : Nat} {u : SX} {v : SY} (I : i_Rel k u v) (hk : k + 3 ≤ 1536) : wpX_bits (fun r => wpY_bits (fun r' => r' = r ∧ i_Rel (k + 3) u v) v) u := by
  obtain ⟨bc, rc, fc, mc, pO, lO, gn, ln, fA, wd, sm, lc, od, sh, ev⟩ := u
  obtain ⟨yn, yc, yf, yl, yw, yp, ys⟩ := v
  have I' := I
  obtain ⟨n, b, ⟨hn, rfl, hT, hG, hl, hr⟩, rfl, hy, hp⟩ := I'
  exact ⟨rfl, I⟩
theorem i_vc_bit {k : Nat} {u : SX} {v : SY} (I : i_Rel k u v) (hk : k + 3 ≤ 1536) (v1 : Int32) : wpX_bit (fun r => wpY_bit (fun r' => r' = r ∧ i_Rel (k + 3) u v) v v1) u v1 := by
  obtain ⟨bc, rc, fc, mc, pO, lO, gn, ln, fA, wd, sm, lc, od, sh, ev⟩ := u
  obtain ⟨yn, yc, yf, yl, yw, yp, ys⟩ := v
  have I' := I
  obtain ⟨n, b, ⟨hn, rfl, hT, hG, hl, hr⟩, rfl, hy, hp⟩ := I'
  rcases pk_ix v1 (n := n) (by omega) with h | h | ⟨i, hi, rfl⟩
  · exact zx_bitN (Or.inl h) (zy_bitN (Or.inl h) ⟨rfl, I⟩)
  · exact zx_bitN (Or.inr h) (zy_bitN (Or.inr h) ⟨rfl, I⟩)
  · exact zx_bitI hn hl hi (zy_bitI hn hy hi ⟨rfl, I⟩)
theorem i_vc_frames {k : Nat} {u : SX} {v : SY} (I : i_Rel k u v) (hk : k + 3 ≤ 1536) : wpX_frames (fun r u' => wpY_frames (fun r' v' => r' = r ∧ i_Rel (k + 3) u' v') v) u := by
  obtain ⟨bc, rc, fc, mc, pO, lO, gn, ln, fA, wd, sm, lc, od, sh, ev⟩ := u
  obtain ⟨yn, yc, yf, yl, yw, yp, ys⟩ := v
  obtain ⟨n, b, ⟨hn, rfl, hT, hG, hl, hr⟩, rfl, hy, hp⟩ := I
  exact zx_framesP hl hn hr (fun fA' hf => zy_framesP hy hn (fun ys' => ⟨rfl, zz_mk1 hn hT hG hl hf hy hp⟩))
theorem i_vc_place {k : Nat} {u : SX} {v : SY} (I : i_Rel k u v) (hk : k + 3 ≤ 1536) (v1 : Int32) : wpX_place (fun r u' => wpY_place (fun r' v' => r' = r ∧ i_Rel (k + 3) u' v') v v1) u v1 := by
  obtain ⟨bc, rc, fc, mc, pO, lO, gn, ln, fA, wd, sm, lc, od, sh, ev⟩ := u
  obtain ⟨yn, yc, yf, yl, yw, yp, ys⟩ := v
  obtain ⟨n, b, ⟨hn, rfl, hT, hG, hl, hr⟩, rfl, hy, hp⟩ := I
  have h6 := (zr_F_ok b hn).1
  rcases pk_ix v1 (n := (zr_F n b).1) (by omega) with h | h | ⟨j, hj, rfl⟩
  · exact zx_placeN hl hn hr (Or.inl h) (fun fA' hf => zy_placeN hy hn (Or.inl h) (fun ys' => ⟨rfl, zz_mk1 hn hT hG hl hf hy hp⟩))
  · exact zx_placeN hl hn hr (Or.inr h) (fun fA' hf => zy_placeN hy hn (Or.inr h) (fun ys' => ⟨rfl, zz_mk1 hn hT hG hl hf hy hp⟩))
  · exact zx_placeI hl hn hr hj (fun fA' hf => zy_placeI hy hn hj (fun ys' => ⟨rfl, zz_mk1 hn hT hG hl hf hy hp⟩))
theorem i_vc_message {k : Nat} {u : SX} {v : SY} (I : i_Rel k u v) (hk : k + 3 ≤ 1536) (v1 : Int32) : wpX_message (fun r u' => wpY_message (fun r' v' => r' = r ∧ i_Rel (k + 3) u' v') v v1) u v1 := by
  obtain ⟨bc, rc, fc, mc, pO, lO, gn, ln, fA, wd, sm, lc, od, sh, ev⟩ := u
  obtain ⟨yn, yc, yf, yl, yw, yp, ys⟩ := v
  obtain ⟨n, b, ⟨hn, rfl, hT, hG, hl, hr⟩, rfl, hy, hp⟩ := I
  have h6 := (zr_F_ok b hn).1
  rcases pk_ix v1 (n := (zr_F n b).1) (by omega) with h | h | ⟨j, hj, rfl⟩
  · exact zx_messageN hl hn hr (Or.inl h) (fun fA' hf => zy_messageN hy hn (Or.inl h) (fun ys' => ⟨rfl, zz_mk1 hn hT hG hl hf hy hp⟩))
  · exact zx_messageN hl hn hr (Or.inr h) (fun fA' hf => zy_messageN hy hn (Or.inr h) (fun ys' => ⟨rfl, zz_mk1 hn hT hG hl hf hy hp⟩))
  · exact zx_messageI hT hl hn hr hj (fun fA' hf mc wd sm lc od sh ev => zy_messageI hp hy hn hj (fun ys' yc' yw' => ⟨rfl, zz_mk1 hn hT hG hl hf hy hp⟩))
theorem i_vc_mended {k : Nat} {u : SX} {v : SY} (I : i_Rel k u v) (hk : k + 3 ≤ 1536) (v1 : Int32) : wpX_mended (fun r u' => wpY_mended (fun r' v' => r' = r ∧ i_Rel (k + 3) u' v') v v1) u v1 := by
  obtain ⟨bc, rc, fc, mc, pO, lO, gn, ln, fA, wd, sm, lc, od, sh, ev⟩ := u
  obtain ⟨yn, yc, yf, yl, yw, yp, ys⟩ := v
  obtain ⟨n, b, ⟨hn, rfl, hT, hG, hl, hr⟩, rfl, hy, hp⟩ := I
  have h6 := (zr_F_ok b hn).1
  rcases pk_ix v1 (n := (zr_F n b).1) (by omega) with h | h | ⟨j, hj, rfl⟩
  · exact zx_mendedN hl hn hr (Or.inl h) (fun fA' hf => zy_mendedN hy hn (Or.inl h) (fun ys' => ⟨rfl, zz_mk1 hn hT hG hl hf hy hp⟩))
  · exact zx_mendedN hl hn hr (Or.inr h) (fun fA' hf => zy_mendedN hy hn (Or.inr h) (fun ys' => ⟨rfl, zz_mk1 hn hT hG hl hf hy hp⟩))
  · exact zx_mendedI hT hl hn hr hj (fun fA' hf mc wd sm lc od sh ev => zy_mendedI hp hy hn hj (fun ys' yc' yw' => ⟨rfl, zz_mk1 hn hT hG hl hf hy hp⟩))
theorem i_vc_good {k : Nat} {u : SX} {v : SY} (I : i_Rel k u v) (hk : k + 3 ≤ 1536) : wpX_good (fun r u' => wpY_good (fun r' v' => r' = r ∧ i_Rel (k + 3) u' v') v) u := by
  obtain ⟨bc, rc, fc, mc, pO, lO, gn, ln, fA, wd, sm, lc, od, sh, ev⟩ := u
  obtain ⟨yn, yc, yf, yl, yw, yp, ys⟩ := v
  obtain ⟨n, b, ⟨hn, rfl, hT, hG, hl, hr⟩, rfl, hy, hp⟩ := I
  exact zx_goodP hT hl hn hr (fun fA' hf mc wd sm lc od sh ev => zy_goodP hp hy hn (fun ys' yc' yw' => ⟨rfl, zz_mk1 hn hT hG hl hf hy hp⟩))
end

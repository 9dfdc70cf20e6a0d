section
theorem pk_us {f : Nat → Int32} {k : Nat} {x : Int32} : upd f k x k = x := if_pos rfl
theorem pk_un {f : Nat → Int32} {k j : Nat} {x : Int32} (h : j ≠ k) : upd f k x j = f j := if_neg h
theorem pk_uLs {f : Nat → Int64} {k : Nat} {x : Int64} : vp_updL f k x k = x := if_pos rfl
theorem pk_uLn {f : Nat → Int64} {k j : Nat} {x : Int64} (h : j ≠ k) : vp_updL f k x j = f j := if_neg h
theorem pk_sub {a b : Nat} (h : b ≤ a) : nI a - nI b = nI (a - b) := by
  obtain ⟨c, rfl⟩ : ∃ c, a = c + b := ⟨a - b, by omega⟩
  rw [← nI_add, Int32.add_sub_cancel, Nat.add_sub_cancel]
theorem pk_m1 (n : Nat) : nI (n + 1) + (-1) = nI n := by
  rw [← nI_1, Int32.add_assoc, show (1 : Int32) + (-1) = 0 from rfl, Int32.add_zero]
theorem pk_mul (a b : Nat) : nI a * nI b = nI (a * b) := (Int32.ofNat_mul a b).symm
theorem pk_div {a d : Nat} (ha : a < 2 ^ 31) (h0 : 0 < d) (hd : d < 2 ^ 31) : nI a / nI d = nI (a / d) := by
  apply Int32.toInt_inj.mp
  rw [lg_idiv_nonneg (by rw [nI_toInt ha]; omega) (by rw [nI_toInt hd]; omega), nI_toInt ha, nI_toInt hd, nI_toInt (Nat.lt_of_le_of_lt (Nat.div_le_self a d) ha)]
  first | rfl | exact (Int.natCast_ediv _ _).symm
theorem pk_rem {a d : Nat} (ha : a < 2 ^ 31) (h0 : 0 < d) (hd : d < 2 ^ 31) : nI a - nI a / nI d * nI d = nI (a % d) := by
  rw [pk_div ha h0 hd, pk_mul, pk_sub (Nat.div_mul_le_self a d)]
  exact congrArg nI (by have := Nat.div_add_mod' a d; omega)
theorem pk_sub_toInt {a b : Nat} (ha : a < 2 ^ 30) (hb : b < 2 ^ 30) : (nI a - nI b).toInt = (a : Int) - b := by
  rw [Int32.toInt_sub, nI_toInt (by omega), nI_toInt (by omega)]
  exact Int.bmod_eq_of_le (by omega) (by omega)
theorem pk_sneg {a b : Nat} (hb : b < 2 ^ 30) (h : a < b) : nI a - nI b < 0 := by
  rw [Int32.lt_iff_toInt_lt, pk_sub_toInt (by omega) hb, show (0 : Int32).toInt = 0 from by decide]
  omega
theorem pk_ix (x : Int32) {n : Nat} (hn : n < 2 ^ 31) : x < 0 ∨ nI n ≤ x ∨ ∃ j : Nat, j < n ∧ x = nI j := by
  by_cases h : x < 0
  · exact Or.inl h
  · obtain ⟨j, hj, rfl⟩ := nI_of h
    by_cases h2 : j < n
    · exact Or.inr (Or.inr ⟨j, h2, rfl⟩)
    · exact Or.inr (Or.inl (nI_le (by omega) hj))
theorem pk_le {x y : Int32} {A B : Prop} (a b : Nat) (f : a ≤ b → A) (g : b < a → B) (hx : x = nI a := by rfl) (hy : y = nI b := by rfl) (ha : a < 2 ^ 31 := by omega) (hb : b < 2 ^ 31 := by omega) : (x ≤ y → A) ∧ (¬ x ≤ y → B) := by
  subst hx hy
  rw [nI_leI ha hb]
  exact ⟨f, fun z => g (by omega)⟩
theorem pk_lt {x y : Int32} {A B : Prop} (a b : Nat) (f : a < b → A) (g : b ≤ a → B) (hx : x = nI a := by rfl) (hy : y = nI b := by rfl) (ha : a < 2 ^ 31 := by omega) (hb : b < 2 ^ 31 := by omega) : (x < y → A) ∧ (¬ x < y → B) := by
  subst hx hy
  rw [nI_ltI ha hb]
  exact ⟨f, fun z => g (by omega)⟩
theorem pk_eq {x y : Int32} {A B : Prop} (a b : Nat) (f : a = b → A) (g : a ≠ b → B) (hx : x = nI a := by rfl) (hy : y = nI b := by rfl) (ha : a < 2 ^ 31 := by omega) (hb : b < 2 ^ 31 := by omega) : (x = y → A) ∧ (¬ x = y → B) := by
  subst hx hy
  rw [nI_eq ha hb]
  exact ⟨f, g⟩
theorem pk_in {x : Int32} (n N : Nat) (h : n < N) (hx : x = nI n := by rfl) (hN : N < 2 ^ 31 := by omega) : vp_in x N := by
  subst hx
  exact vp_in_nI h hN
theorem pk_cl {x : Int32} (n : Nat) (hx : x = nI n := by rfl) (h : n < 2 ^ 31 := by omega) : x.toNatClampNeg = n := by
  subst hx
  exact nI_clamp h
theorem pk_tn {n : Nat} (h : n < 2 ^ 32) : (nI n).toBitVec.toNat = n := Nat.mod_eq_of_lt h
theorem pk_and (x : Int32) {m : Int32} (k : Nat) (hm : m.toBitVec.toNat = 2 ^ k - 1) : x &&& m = nI (x.toBitVec.toNat % 2 ^ k) := by
  apply Int32.toBitVec_inj.mp
  apply BitVec.eq_of_toNat_eq
  rw [Int32.toBitVec_and, BitVec.toNat_and, hm, Nat.and_two_pow_sub_one_eq_mod]
  show _ = (BitVec.ofNat 32 _).toNat
  rw [BitVec.toNat_ofNat]
  exact (Nat.mod_eq_of_lt (Nat.lt_of_le_of_lt (Nat.mod_le _ _) x.toBitVec.isLt)).symm
theorem pk_andN {n : Nat} (h : n < 2 ^ 32) {m : Int32} (k : Nat) (hm : m.toBitVec.toNat = 2 ^ k - 1) : nI n &&& m = nI (n % 2 ^ k) := by
  rw [pk_and _ k hm, pk_tn h]
theorem pk_andE (x : Int32) {m : Int32} (k : Nat) (hm : m.toBitVec.toNat = 2 ^ k - 1) : ∃ j : Nat, j < 2 ^ k ∧ x &&& m = nI j := ⟨_, Nat.mod_lt _ (Nat.two_pow_pos k), pk_and x k hm⟩
theorem pk_andIn (x : Int32) {m : Int32} (k : Nat) (hm : m.toBitVec.toNat = 2 ^ k - 1) (hk : k ≤ 30) : vp_in (x &&& m) (2 ^ k) := by
  obtain ⟨j, hj, e⟩ := pk_andE x k hm
  rw [e]
  exact vp_in_nI hj (Nat.lt_of_le_of_lt (Nat.pow_le_pow_right (by decide) hk) (by decide))
theorem pk_shl (a s : Int32) (k : Nat) (hs : (s.toBitVec.smod 32).toNat = k) : (a <<< s).toBitVec.toNat = a.toBitVec.toNat * 2 ^ k % 2 ^ 32 := by
  show (a.toBitVec <<< (s.toBitVec.smod 32).toNat).toNat = _
  rw [hs, BitVec.toNat_shiftLeft, Nat.shiftLeft_eq]
theorem pk_shlN {n : Nat} (s : Int32) (k : Nat) (hs : (s.toBitVec.smod 32).toNat = k) (h : n * 2 ^ k < 2 ^ 32) : nI n <<< s = nI (n * 2 ^ k) := by
  apply Int32.toBitVec_inj.mp
  apply BitVec.eq_of_toNat_eq
  have hn : n < 2 ^ 32 := Nat.lt_of_le_of_lt (Nat.le_mul_of_pos_right n (Nat.two_pow_pos k)) h
  rw [pk_shl _ _ k hs, pk_tn hn, pk_tn h, Nat.mod_eq_of_lt h]
theorem pk_shr (a s : Int32) (k : Nat) (hs : (s.toBitVec.smod 32).toNat = k) : (a >>> s).toInt = a.toInt >>> k := by
  show (a.toBitVec.sshiftRight (s.toBitVec.smod 32).toNat).toInt = _
  rw [hs, BitVec.toInt_sshiftRight]
  rfl
theorem pk_shrN {n : Nat} (h : n < 2 ^ 31) (s : Int32) (k : Nat) (hs : (s.toBitVec.smod 32).toNat = k) : nI n >>> s = nI (n / 2 ^ k) := by
  apply Int32.toInt_inj.mp
  have h2 : n / 2 ^ k ≤ n := Nat.div_le_self _ _
  rw [pk_shr _ _ k hs, nI_toInt h, nI_toInt (by omega), Int.shiftRight_eq_div_pow]
  rfl
theorem pk_ushr (x s : Int32) (k : Nat) (hs : ((s.toUInt32 &&& Int32.toUInt32 31).toBitVec % 32).toNat = k) : (x.toUInt32 >>> (s.toUInt32 &&& Int32.toUInt32 31)).toInt32.toBitVec.toNat = x.toBitVec.toNat / 2 ^ k := by
  have e : (x.toUInt32 >>> (s.toUInt32 &&& Int32.toUInt32 31)).toInt32.toBitVec = x.toBitVec >>> k := by
    rw [← hs]
    exact UInt32.toBitVec_shiftRight _ _
  rw [e, BitVec.toNat_ushiftRight, Nat.shiftRight_eq_div_pow]
theorem pk_ushrN {n : Nat} (hn : n < 2 ^ 32) (s : Int32) (k : Nat) (hs : ((s.toUInt32 &&& Int32.toUInt32 31).toBitVec % 32).toNat = k) : ((nI n).toUInt32 >>> (s.toUInt32 &&& Int32.toUInt32 31)).toInt32 = nI (n / 2 ^ k) := by
  apply Int32.toBitVec_inj.mp
  apply BitVec.eq_of_toNat_eq
  rw [pk_ushr _ s k hs, pk_tn hn, pk_tn (Nat.lt_of_le_of_lt (Nat.div_le_self _ _) hn)]
theorem pk_nb (z : Int32) : narrow .byte (.int z.toInt8.toInt32) = .int z.toInt8.toInt32 := congrArg Value.int (by simp)
theorem pk_ns (z : Int32) : narrow .short (.int z.toInt16.toInt32) = .int z.toInt16.toInt32 := congrArg Value.int (by simp)
theorem pk_fb (r : Int32) : fits .byte (.int r.toInt8.toInt32) = true := by
  have ⟨a, b⟩ := lg_i2b_range r
  have h1 : (-128 : Int32).toInt = -128 := by decide
  have h2 : (127 : Int32).toInt = 127 := by decide
  simp only [fits, Bool.and_eq_true, decide_eq_true_eq, Int32.le_iff_toInt_le, h1, h2]
  omega
theorem pk_fs (r : Int32) : fits .short (.int r.toInt16.toInt32) = true := by
  have ⟨a, b⟩ := lg_i2s_range r
  have h1 : (-32768 : Int32).toInt = -32768 := by decide
  have h2 : (32767 : Int32).toInt = 32767 := by decide
  simp only [fits, Bool.and_eq_true, decide_eq_true_eq, Int32.le_iff_toInt_le, h1, h2]
  omega
theorem pk_charN {q : Nat} (hq : q < 65536) : narrow .char (.int (nI q)) = .int (nI q) ∧ fits .char (.int (nI q)) = true := by
  constructor
  · have e : (nI q).toUInt32.toUInt16.toUInt32.toInt32 = nI q := by
      apply Int32.toBitVec_inj.mp
      apply BitVec.eq_of_toNat_eq
      show (nI q).toUInt32.toUInt16.toUInt32.toNat = q % 2 ^ 32
      rw [UInt16.toNat_toUInt32, UInt32.toNat_toUInt16, show (nI q).toUInt32.toNat = q % 2 ^ 32 from rfl]
      omega
    exact congrArg Value.int e
  · have a : (0 : Int32) ≤ nI q := nI_pos' (by omega)
    have b : nI q ≤ 65535 := nI_le (b := 65535) (by omega) (by decide)
    show (decide ((0 : Int32) ≤ nI q) && decide (nI q ≤ 65535)) = true
    rw [decide_eq_true a, decide_eq_true b]
    rfl
theorem pk_char (x : Int32) : (x.toUInt32 % 65536).toInt32 = nI (x.toBitVec.toNat % 65536) := by
  apply Int32.toBitVec_inj.mp
  apply BitVec.eq_of_toNat_eq
  rw [pk_tn (by omega)]
  show (x.toUInt32 % 65536).toNat = _
  rw [UInt32.toNat_mod]
  rfl
theorem pk_nc (x : Int32) : narrow .char (.int (x.toUInt32 % 65536).toInt32) = .int (x.toUInt32 % 65536).toInt32 := by
  rw [pk_char]
  exact (pk_charN (Nat.mod_lt _ (by decide))).1
theorem pk_fc (x : Int32) : fits .char (.int (x.toUInt32 % 65536).toInt32) = true := by
  rw [pk_char]
  exact (pk_charN (Nat.mod_lt _ (by decide))).2
theorem pk_vb (z : Int32) : vp_nar .byte z.toInt8.toInt32 = z.toInt8.toInt32 := by rw [vp_nar_byte]; simp
theorem pk_vs (z : Int32) : vp_nar .short z.toInt16.toInt32 = z.toInt16.toInt32 := by rw [vp_nar_short]; simp
theorem pk_vc (z : Int32) : vp_nar .char (z.toUInt32 % 65536).toInt32 = (z.toUInt32 % 65536).toInt32 := Value.int.inj (pk_nc z)
theorem ek_if {c d A B : Prop} (e : c ↔ d) (f : d → A) (g : ¬ d → B) : (c → A) ∧ (¬ c → B) :=
  ⟨fun z => f (e.mp z), fun z => g (fun y => z (e.mpr y))⟩
theorem ek_v {α : Sort _} {P : α → Prop} {a b : α} (e : a = b) (h : P b) : P a := e ▸ h
end
section
/-! sets of pairs (position, height) in bits of small arrays; counting -/
theorem sc_nar0 : vp_nar .boolean 0 = 0 := rfl
theorem sc_nar1 : vp_nar .boolean 1 = 1 := rfl
theorem sc_i8 : ∀ m, m < 128 → (nI m).toInt8.toInt32 = nI m := by decide +kernel
theorem sc_byte {m : Nat} (h : m < 128) : vp_nar .byte (nI m) = nI m := by rw [vp_nar_byte, sc_i8 m h]
theorem sc_byte2 {m : Nat} (h : m < 128) : vp_nar .byte ((nI m).toInt8.toInt32) = nI m := by rw [sc_i8 m h, sc_byte h]
theorem sc_i16 : ∀ m, m < 1024 → (nI m).toInt16.toInt32 = nI m := by decide +kernel
theorem sc_short2 {m : Nat} (h : m < 1024) : vp_nar .short ((nI m).toInt16.toInt32) = nI m := by rw [vp_nar_short, sc_i16 m h, sc_i16 m h]
theorem sc_nm1 : vp_nar .byte ((-1 : Int32).toInt8.toInt32) = -1 := by rw [vp_nar_byte]; decide
theorem sc_nm1' : vp_nar .byte (-1 : Int32) = -1 := by rw [vp_nar_byte]; decide
theorem sc_bt : ∀ m, m < 128 → ∀ h, h < 7 → ((nI m >>> (nI h &&& 31)) &&& 1) = if m.testBit h = true then 1 else 0 := by decide +kernel
theorem sc_bor : ∀ m, m < 128 → ∀ h, h < 7 → (nI m ||| ((1 : Int32) <<< (nI h &&& 31))) = nI (m ||| 2 ^ h) := by decide +kernel
theorem sc_bor_lt : ∀ m, m < 128 → ∀ h, h < 7 → m ||| 2 ^ h < 128 := by decide +kernel
theorem sc_nor : ∀ a, a < 16 → ∀ b, b < 16 → nI a ||| nI b = nI (a ||| b) := by decide +kernel
theorem sc_nor_lt : ∀ a, a < 16 → ∀ b, b < 16 → a ||| b < 16 := by decide +kernel
theorem sc_bt0 {m h : Nat} (hm : m < 128) (hh : h < 7) : ((nI m >>> (nI h &&& 31)) &&& 1) = 0 ↔ ¬ m.testBit h = true := by
  rw [sc_bt m hm h hh]
  by_cases z : m.testBit h = true
  · rw [if_pos z]; exact ⟨fun e => absurd e (by decide), fun e => absurd z e⟩
  · rw [if_neg z]; exact ⟨fun _ => z, fun _ => rfl⟩
theorem sc_bt1 {m h : Nat} (hm : m < 128) (hh : h < 7) : ((nI m >>> (nI h &&& 31)) &&& 1) = 1 ↔ m.testBit h = true := by
  rw [sc_bt m hm h hh]
  by_cases z : m.testBit h = true
  · rw [if_pos z]; exact ⟨fun _ => z, fun _ => rfl⟩
  · rw [if_neg z]; exact ⟨fun e => absurd e (by decide), fun e => absurd e z⟩
theorem sc_tor (m h g : Nat) : (m ||| 2 ^ h).testBit g = true ↔ m.testBit g = true ∨ g = h := by
  rw [Nat.testBit_or, Nat.testBit_two_pow, Bool.or_eq_true, decide_eq_true_eq]
  exact ⟨fun z => z.elim Or.inl (fun e => Or.inr e.symm), fun z => z.elim Or.inl (fun e => Or.inr e.symm)⟩
def sc_HS (a : Nat → Int32) (A : Nat → Nat → Prop) : Prop := ∀ p, p < 20 → ∃ m, m < 128 ∧ a p = nI m ∧ ∀ h, h < 7 → (m.testBit h = true ↔ A p h)
theorem sc_HS_c {a : Nat → Int32} {A B : Nat → Nat → Prop} (H : sc_HS a A) (h : ∀ p g, p < 20 → g < 7 → (A p g ↔ B p g)) : sc_HS a B := fun p hp => by
  obtain ⟨m, h1, h2, h3⟩ := H p hp
  exact ⟨m, h1, h2, fun g hg => (h3 g hg).trans (h p g hp hg)⟩
theorem sc_HS_b0 {a : Nat → Int32} {A : Nat → Nat → Prop} (H : sc_HS a A) {p h : Nat} (hp : p < 20) (hh : h < 7) : (((a p) >>> (nI h &&& 31)) &&& 1) = 0 ↔ ¬ A p h := by
  obtain ⟨m, h1, h2, h3⟩ := H p hp
  rw [h2, sc_bt0 h1 hh, h3 h hh]
theorem sc_HS_b1 {a : Nat → Int32} {A : Nat → Nat → Prop} (H : sc_HS a A) {p h : Nat} (hp : p < 20) (hh : h < 7) : (((a p) >>> (nI h &&& 31)) &&& 1) = 1 ↔ A p h := by
  obtain ⟨m, h1, h2, h3⟩ := H p hp
  rw [h2, sc_bt1 h1 hh, h3 h hh]
theorem sc_HS_v {a : Nat → Int32} {A : Nat → Nat → Prop} (H : sc_HS a A) {p h : Nat} (hp : p < 20) (hh : h < 7) : sc_HS (upd a p ((a p) ||| ((1 : Int32) <<< (nI h &&& 31)))) (fun q g => A q g ∨ (q = p ∧ g = h)) := by
  intro q hq
  by_cases e : q = p
  · subst e
    obtain ⟨m, h1, h2, h3⟩ := H q hq
    refine ⟨m ||| 2 ^ h, sc_bor_lt m h1 h hh, ?_, fun g hg => ?_⟩
    · rw [pk_us, h2, sc_bor m h1 h hh]
    · rw [sc_tor, h3 g hg]
      exact ⟨fun z => z.elim Or.inl (fun e => Or.inr ⟨rfl, e⟩), fun z => z.elim Or.inl (fun e => Or.inr e.2)⟩
  · obtain ⟨m, h1, h2, h3⟩ := H q hq
    refine ⟨m, h1, ?_, fun g hg => ?_⟩
    · rw [pk_un e, h2]
    · rw [h3 g hg]
      exact ⟨Or.inl, fun z => z.elim id (fun w => absurd w.1 e)⟩
theorem sc_HS_u {a : Nat → Int32} {A : Nat → Nat → Prop} (H : sc_HS a A) {p h : Nat} (hp : p < 20) (hh : h < 7) : sc_HS (upd a p (vp_nar .byte (((a p) ||| ((1 : Int32) <<< (nI h &&& 31))).toInt8.toInt32))) (fun q g => A q g ∨ (q = p ∧ g = h)) := by
  obtain ⟨m, h1, h2, h3⟩ := H p hp
  have e : vp_nar .byte (((a p) ||| ((1 : Int32) <<< (nI h &&& 31))).toInt8.toInt32) = (a p) ||| ((1 : Int32) <<< (nI h &&& 31)) := by
    rw [h2, sc_bor m h1 h hh, sc_byte2 (sc_bor_lt m h1 h hh)]
  rw [e]
  exact sc_HS_v H hp hh
theorem sc_HS_eq {a b : Nat → Int32} {A : Nat → Nat → Prop} (H : sc_HS a A) (H' : sc_HS b A) {p : Nat} (hp : p < 20) : a p = b p := by
  obtain ⟨m, h1, h2, h3⟩ := H p hp
  obtain ⟨k, k1, k2, k3⟩ := H' p hp
  have e : m = k := by
    apply Nat.eq_of_testBit_eq
    intro i
    by_cases hi : i < 7
    · have := (h3 i hi).trans (k3 i hi).symm
      cases hm : m.testBit i <;> cases hk : k.testBit i <;> simp_all
    · have l : 128 ≤ 2 ^ i := by
        have := Nat.pow_le_pow_right (n := 2) (by decide) (show 7 ≤ i by omega)
        omega
      rw [Nat.testBit_lt_two_pow (by omega), Nat.testBit_lt_two_pow (by omega)]
  rw [h2, k2, e]
theorem sc_HS_0 {a : Nat → Int32} (h : ∀ p, p < 20 → a p = 0) : sc_HS a (fun _ _ => False) := fun p hp =>
  ⟨0, by decide, h p hp, fun g _ => by simp⟩
theorem sc_HS_ne {a : Nat → Int32} {A : Nat → Nat → Prop} (H : sc_HS a A) {p : Nat} (hp : p < 20) : ¬ a p = 0 ↔ ∃ h, h < 7 ∧ A p h := by
  obtain ⟨m, h1, h2, h3⟩ := H p hp
  constructor
  · intro z
    apply Classical.byContradiction
    intro n
    apply z
    have e : m = 0 := by
      apply Nat.eq_of_testBit_eq
      intro i
      rw [Nat.zero_testBit]
      by_cases hi : i < 7
      · cases hm : m.testBit i
        · rfl
        · exact absurd ⟨i, hi, (h3 i hi).mp hm⟩ n
      · have l : 128 ≤ 2 ^ i := by
          have := Nat.pow_le_pow_right (n := 2) (by decide) (show 7 ≤ i by omega)
          omega
        exact Nat.testBit_lt_two_pow (by omega)
    rw [h2, e]; rfl
  · rintro ⟨h, hh, ha⟩ z
    have t := (h3 h hh).mpr ha
    have e : m = 0 := by
      rw [h2] at z
      exact (nI_eq (a := m) (b := 0) (by omega) (by omega)).mp z
    rw [e, Nat.zero_testBit] at t
    exact absurd t (by decide)
/-! waiting pairs -/
def sc_WS (a : Nat → Int32) (W : Nat → Nat → Prop) : Prop := ∀ p h, p < 20 → h < 7 → (a (p * 7 + h) = 0 ↔ ¬ W p h)
theorem sc_WS_c {a : Nat → Int32} {A B : Nat → Nat → Prop} (H : sc_WS a A) (h : ∀ p g, p < 20 → g < 7 → (A p g ↔ B p g)) : sc_WS a B := fun p g hp hg => by
  rw [H p g hp hg, h p g hp hg]
theorem sc_WS_1 {a : Nat → Int32} {W : Nat → Nat → Prop} (H : sc_WS a W) {p h : Nat} (hh : h < 7) : sc_WS (upd a (p * 7 + h) 1) (fun q g => W q g ∨ (q = p ∧ g = h)) := by
  intro q g hq hg
  by_cases e : q * 7 + g = p * 7 + h
  · rw [e, pk_us]
    exact ⟨fun z => absurd z (by decide), fun z => absurd (Or.inr ⟨by omega, by omega⟩) z⟩
  · rw [pk_un e, H q g hq hg]
    exact ⟨fun z w => w.elim z (fun v => e (by rw [v.1, v.2])), fun z w => z (Or.inl w)⟩
theorem sc_WS_0 {a : Nat → Int32} {W : Nat → Nat → Prop} (H : sc_WS a W) {p h : Nat} (hh : h < 7) : sc_WS (upd a (p * 7 + h) 0) (fun q g => W q g ∧ ¬ (q = p ∧ g = h)) := by
  intro q g hq hg
  by_cases e : q * 7 + g = p * 7 + h
  · rw [e, pk_us]
    exact ⟨fun _ w => w.2 ⟨by omega, by omega⟩, fun _ => rfl⟩
  · rw [pk_un e, H q g hq hg]
    exact ⟨fun z w => z w.1, fun z w => z ⟨w, fun v => e (by rw [v.1, v.2])⟩⟩
/-! counting -/
noncomputable def sc_b (P : Prop) : Nat := @ite Nat P (Classical.propDecidable P) 1 0
theorem sc_b_t {P : Prop} (h : P) : sc_b P = 1 := by unfold sc_b; rw [if_pos h]
theorem sc_b_f {P : Prop} (h : ¬ P) : sc_b P = 0 := by unfold sc_b; rw [if_neg h]
theorem sc_b_le (P : Prop) : sc_b P ≤ 1 := by
  rcases Classical.em P with h | h
  · rw [sc_b_t h]; omega
  · rw [sc_b_f h]; omega
theorem sc_b_mono {P Q : Prop} (h : P → Q) : sc_b P ≤ sc_b Q := by
  rcases Classical.em P with hp | hp
  · rw [sc_b_t hp, sc_b_t (h hp)]; omega
  · rw [sc_b_f hp]; omega
noncomputable def sc_cn (P : Nat → Prop) : Nat → Nat
  | 0 => 0
  | k + 1 => sc_cn P k + sc_b (P k)
theorem sc_cn_mono {P Q : Nat → Prop} : ∀ {N : Nat}, (∀ k, k < N → P k → Q k) → sc_cn P N ≤ sc_cn Q N
  | 0, _ => Nat.le_refl _
  | N + 1, h => by
    have a := sc_cn_mono (P := P) (Q := Q) (N := N) (fun k hk => h k (by omega))
    have b := sc_b_mono (h N (by omega))
    simp only [sc_cn]; omega
theorem sc_cn_lt {P Q : Nat → Prop} {a : Nat} (hp : ¬ P a) (hq : Q a) : ∀ {N : Nat}, (∀ k, k < N → P k → Q k) → a < N → sc_cn P N < sc_cn Q N
  | 0, _, h => by omega
  | N + 1, h, ha => by
    simp only [sc_cn]
    rcases Nat.lt_or_ge a N with z | z
    · have x := sc_cn_lt hp hq (N := N) (fun k hk => h k (by omega)) z
      have b := sc_b_mono (h N (by omega))
      omega
    · have e : a = N := by omega
      subst e
      have x := sc_cn_mono (P := P) (Q := Q) (N := a) (fun k hk => h k (by omega))
      rw [sc_b_t hq, sc_b_f hp]; omega
theorem sc_cn_le (P : Nat → Prop) : ∀ N, sc_cn P N ≤ N
  | 0 => Nat.le_refl _
  | N + 1 => by have := sc_cn_le P N; have := sc_b_le (P N); simp only [sc_cn]; omega
theorem sc_cn_eq {P Q : Nat → Prop} {N : Nat} (h : ∀ k, k < N → (P k ↔ Q k)) : sc_cn P N = sc_cn Q N :=
  Nat.le_antisymm (sc_cn_mono fun k hk => (h k hk).mp) (sc_cn_mono fun k hk => (h k hk).mpr)
theorem sc_cn_full {P : Nat → Prop} : ∀ {N : Nat}, N ≤ sc_cn P N → ∀ k, k < N → P k
  | 0, _, k, hk => by omega
  | N + 1, h, k, hk => by
    simp only [sc_cn] at h
    have a := sc_cn_le P N
    have b := sc_b_le (P N)
    rcases Nat.lt_or_ge k N with z | z
    · exact sc_cn_full (N := N) (by omega) k z
    · have e : k = N := by omega
      subst e
      rcases Classical.em (P k) with w | w
      · exact w
      · rw [sc_b_f w] at h; omega
/-! ors -/
noncomputable def sc_if (P : Prop) (v : Nat) : Nat := @ite Nat P (Classical.propDecidable P) v 0
theorem sc_if_t {P : Prop} {v : Nat} (h : P) : sc_if P v = v := by unfold sc_if; rw [if_pos h]
theorem sc_if_f {P : Prop} {v : Nat} (h : ¬ P) : sc_if P v = 0 := by unfold sc_if; rw [if_neg h]
theorem sc_if_c {P Q : Prop} {v : Nat} (h : P ↔ Q) : sc_if P v = sc_if Q v := by
  rcases Classical.em P with z | z
  · rw [sc_if_t z, sc_if_t (h.mp z)]
  · rw [sc_if_f z, sc_if_f (fun w => z (h.mpr w))]
def sc_os (f : Nat → Nat) : Nat → Nat
  | 0 => 0
  | k + 1 => sc_os f k ||| f k
theorem sc_os_c {f g : Nat → Nat} : ∀ {n : Nat}, (∀ k, k < n → f k = g k) → sc_os f n = sc_os g n
  | 0, _ => rfl
  | n + 1, h => by simp only [sc_os]; rw [sc_os_c (n := n) (fun k hk => h k (by omega)), h n (by omega)]
theorem sc_os_u {f g : Nat → Nat} {a : Nat} (h0 : f a = 0) (h : ∀ k, k ≠ a → f k = g k) : ∀ {n : Nat}, a < n → sc_os g n = sc_os f n ||| g a
  | 0, z => by omega
  | n + 1, z => by
    simp only [sc_os]
    by_cases e : a = n
    · subst e
      rw [h0, Nat.or_zero, sc_os_c (f := g) (g := f) (fun k hk => (h k (by omega)).symm)]
    · rw [sc_os_u h0 h (n := n) (by omega), ← h n (by omega), Nat.or_assoc, Nat.or_comm (g a), ← Nat.or_assoc]
theorem sc_os_0 {f : Nat → Nat} : ∀ {n : Nat}, sc_os f n = 0 ↔ ∀ k, k < n → f k = 0
  | 0 => ⟨fun _ k hk => by omega, fun _ => rfl⟩
  | n + 1 => by
    simp only [sc_os]
    rw [Nat.or_eq_zero_iff, sc_os_0 (n := n)]
    exact ⟨fun h k hk => by
      rcases Nat.lt_or_ge k n with z | z
      · exact h.1 k z
      · have e : k = n := by omega
        subst e
        exact h.2, fun h => ⟨fun k hk => h k (by omega), h n (by omega)⟩⟩
theorem sc_os_lt {f : Nat → Nat} (h : ∀ k, f k < 8) : ∀ n, sc_os f n < 8
  | 0 => Nat.zero_lt_succ 7
  | n + 1 => by
    simp only [sc_os]
    exact Nat.or_lt_two_pow (n := 3) (sc_os_lt h n) (h n)
end
section
/-! the program: o its codes, nu its numbers, N its length; the pairs that walks come to -/
def sc_nd (k : Nat) : Nat := if (3 ≤ k ∧ k ≤ 6) ∨ k = 8 then 2 else if k = 2 ∨ k = 7 ∨ (9 ≤ k ∧ k ≤ 11) then 1 else 0
abbrev sc_up (k : Nat) : Prop := k = 0 ∨ k = 1 ∨ k = 7
def sc_hn (k h : Nat) : Nat := if sc_up k then h + 1 else if k = 8 ∨ 12 ≤ k then h else h - 1
def sc_gr (k : Nat) : Int32 := if sc_up k then 1 else if k = 8 ∨ 12 ≤ k then 0 else -1
abbrev sc_can (k h : Nat) : Prop := sc_nd k ≤ h ∧ (h < 6 ∨ ¬ sc_up k)
abbrev sc_in (N : Nat) (x : Int32) : Prop := ¬ x < 0 ∧ ¬ nI N ≤ x
abbrev sc_far (N : Nat) (o : Nat → Nat) (nu : Nat → Int32) (p : Nat) : Prop := ((o p = 11 ∨ o p = 12) ∧ ¬ sc_in N (nu p)) ∨ (o p < 12 ∧ ¬ p + 1 < N)
def sc_ct (N : Nat) (o : Nat → Nat) (nu : Nat → Int32) (p h : Nat) : Nat := if h < sc_nd (o p) then 1 else if ¬ sc_can (o p) h then 2 else if sc_far N o nu p then 4 else 0
def sc_st (N : Nat) (o : Nat → Nat) (nu : Nat → Int32) (p h q : Nat) : Prop := sc_can (o p) h ∧ q < N ∧ ((o p < 12 ∧ q = p + 1) ∨ ((o p = 11 ∨ o p = 12) ∧ nu p = nI q))
def sc_R (N : Nat) (o : Nat → Nat) (nu : Nat → Int32) (p h : Nat) : Prop := ∀ S : Nat → Nat → Prop, (0 < N → S 0 0) → (∀ p h q, S p h → sc_st N o nu p h q → S q (sc_hn (o p) h)) → S p h
def sc_PO (N : Nat) (op : Nat → Int32) (o : Nat → Nat) (nu : Nat → Int32) : Prop := N ≤ 20 ∧ ∀ p, op p = nI (o p) ∧ o p ≤ 13 ∧ (o p = 1 ∨ o p = 2 → ∃ j, j < 4 ∧ nu p = nI j)
theorem sc_nd_le (k : Nat) : sc_nd k ≤ 2 := by unfold sc_nd; split; omega; split <;> omega
theorem sc_nd_nup {k : Nat} (h : ¬ sc_up k) (h8 : ¬ (k = 8 ∨ 12 ≤ k)) : 1 ≤ sc_nd k := by
  unfold sc_nd
  split
  · omega
  · rename_i z
    rw [if_pos (by simp only [sc_up] at h; omega)]; omega
theorem sc_hn_7 {k h : Nat} (hc : sc_can k h) (hh : h < 7) : sc_hn k h < 7 := by
  unfold sc_hn
  obtain ⟨-, c⟩ := hc
  split
  · rename_i z
    rcases c with c | c
    · omega
    · exact absurd z c
  · split <;> omega
theorem sc_grh {k h : Nat} (hn : sc_nd k ≤ h) : nI h + sc_gr k = nI (sc_hn k h) := by
  unfold sc_gr sc_hn
  by_cases z : sc_up k
  · rw [if_pos z, if_pos z, nI_1]
  · rw [if_neg z, if_neg z]
    by_cases y : k = 8 ∨ 12 ≤ k
    · rw [if_pos y, if_pos y, Int32.add_zero]
    · rw [if_neg y, if_neg y]
      have := sc_nd_nup z y
      obtain ⟨g, rfl⟩ : ∃ g, h = g + 1 := ⟨h - 1, by omega⟩
      rw [pk_m1]; rfl
theorem sc_gr_le {k : Nat} : sc_gr k ≤ 0 ↔ ¬ sc_up k := by
  unfold sc_gr
  by_cases z : sc_up k
  · rw [if_pos z]; exact ⟨fun w => absurd w (by decide), fun w => absurd z w⟩
  · rw [if_neg z]
    refine ⟨fun _ => z, fun _ => ?_⟩
    split <;> decide
theorem sc_gr_1 {k : Nat} : 1 ≤ sc_gr k ↔ sc_up k := by
  unfold sc_gr
  by_cases z : sc_up k
  · rw [if_pos z]; exact ⟨fun _ => z, fun _ => by decide⟩
  · rw [if_neg z]
    refine ⟨fun w => ?_, fun w => absurd w z⟩
    exact absurd w (by split <;> decide)
theorem sc_in_iff {N : Nat} {x : Int32} (hN : N ≤ 20) : sc_in N x ↔ ∃ q, q < N ∧ x = nI q := by
  constructor
  · rintro ⟨h1, h2⟩
    rcases pk_ix x (n := N) (by omega) with z | z | z
    · exact absurd z h1
    · exact absurd z h2
    · exact z
  · rintro ⟨q, hq, rfl⟩
    exact ⟨nI_pos (by omega), nI_ge hq (by omega)⟩
theorem sc_in_nI {N q : Nat} (hN : N ≤ 20) (hq : q < 2 ^ 31) : sc_in N (nI q) ↔ q < N := by
  constructor
  · rintro ⟨h1, h2⟩
    rw [nI_leI (by omega) hq] at h2
    omega
  · intro h
    exact ⟨nI_pos hq, nI_ge h (by omega)⟩
theorem sc_ct_lt (N : Nat) (o : Nat → Nat) (nu : Nat → Int32) (p h : Nat) : sc_ct N o nu p h < 8 := by
  unfold sc_ct
  split
  · omega
  · split
    · omega
    · split <;> omega
section
variable {N : Nat} {o : Nat → Nat} {nu : Nat → Int32}
theorem sc_R_0 (h : 0 < N) : sc_R N o nu 0 0 := fun _ h0 _ => h0 h
theorem sc_R_s {p h q : Nat} (H : sc_R N o nu p h) (hs : sc_st N o nu p h q) : sc_R N o nu q (sc_hn (o p) h) := fun S h0 h1 => h1 p h q (H S h0 h1) hs
theorem sc_R_lt {p h : Nat} (H : sc_R N o nu p h) : p < N ∧ h < 7 :=
  H (fun p h => p < N ∧ h < 7) (fun z => ⟨z, by decide⟩) (fun p h q hp hs => ⟨hs.2.1, sc_hn_7 hs.1 hp.2⟩)
theorem sc_R_min {p h : Nat} (S : Nat → Nat → Prop) (h0 : 0 < N → S 0 0) (h1 : ∀ p h q, p < N → h < 7 → S p h → sc_st N o nu p h q → S q (sc_hn (o p) h)) (H : sc_R N o nu p h) : S p h :=
  (H (fun p h => S p h ∧ p < N ∧ h < 7) (fun z => ⟨h0 z, z, by decide⟩) (fun p h q hp hs => ⟨h1 p h q hp.2.1 hp.2.2 hp.1 hs, hs.2.1, sc_hn_7 hs.1 hp.2.2⟩)).1
end
/-! faults -/
noncomputable def sc_fo (N : Nat) (o : Nat → Nat) (nu : Nat → Int32) (p : Nat) : Nat := sc_os (fun h => sc_if (sc_R N o nu p h) (sc_ct N o nu p h)) 7
noncomputable def sc_fv (N : Nat) (o : Nat → Nat) (nu : Nat → Int32) (p : Nat) : Nat := if sc_cn (sc_R N o nu p) 7 ≤ 1 then sc_fo N o nu p else sc_fo N o nu p ||| 8
def sc_Fit (N : Nat) (o : Nat → Nat) (nu : Nat → Int32) : Prop := 0 < N ∧ ∀ p, p < N → sc_fv N o nu p = 0
section
variable {N : Nat} {o : Nat → Nat} {nu : Nat → Int32}
theorem sc_fo_lt (p : Nat) : sc_fo N o nu p < 8 := sc_os_lt (fun k => by
  rcases Classical.em (sc_R N o nu p k) with z | z
  · rw [sc_if_t z]; exact sc_ct_lt ..
  · rw [sc_if_f z]; decide) 7
theorem sc_fv_lt (p : Nat) : sc_fv N o nu p < 16 := by
  have := sc_fo_lt (N := N) (o := o) (nu := nu) p
  unfold sc_fv
  split
  · omega
  · exact Nat.or_lt_two_pow (n := 4) (by omega) (by decide)
theorem sc_cn_one {P : Nat → Prop} : ∀ {n a b : Nat}, sc_cn P n ≤ 1 → a < b → b < n → P a → P b → False
  | 0, a, b, _, _, hb, _, _ => by omega
  | n + 1, a, b, h, hab, hb, pa, pb => by
    simp only [sc_cn] at h
    by_cases e : b = n
    · subst e
      rw [sc_b_t pb] at h
      have := sc_cn_lt (P := fun _ => False) (Q := P) (a := a) (fun z => z) pa (N := b) (fun _ _ z => z.elim) hab
      omega
    · exact sc_cn_one (n := n) (by omega) hab (by omega) pa pb
theorem sc_fit_ct (F : sc_Fit N o nu) {p h : Nat} (H : sc_R N o nu p h) : sc_ct N o nu p h = 0 := by
  obtain ⟨hp, hh⟩ := sc_R_lt H
  have e := F.2 p hp
  have e2 : sc_fo N o nu p = 0 := by
    unfold sc_fv at e
    split at e
    · exact e
    · exact (Nat.or_eq_zero_iff.mp e).1
  have e3 := sc_os_0.mp e2 h hh
  rw [sc_if_t H] at e3
  exact e3
theorem sc_fit_u (F : sc_Fit N o nu) {p h g : Nat} (H : sc_R N o nu p h) (G : sc_R N o nu p g) : h = g := by
  obtain ⟨hp, hh⟩ := sc_R_lt H
  have hg := (sc_R_lt G).2
  have e := F.2 p hp
  have e2 : sc_cn (sc_R N o nu p) 7 ≤ 1 := by
    unfold sc_fv at e
    split at e
    · assumption
    · exact absurd (Nat.or_eq_zero_iff.mp e).2 (by decide)
  rcases Nat.lt_trichotomy h g with z | z | z
  · exact (sc_cn_one e2 z hg H G).elim
  · exact z
  · exact (sc_cn_one e2 z hh G H).elim
theorem sc_fit_can (F : sc_Fit N o nu) {p h : Nat} (H : sc_R N o nu p h) : sc_can (o p) h ∧ ¬ sc_far N o nu p := by
  have e := sc_fit_ct F H
  unfold sc_ct at e
  split at e
  · omega
  · split at e
    · omega
    · rename_i z
      split at e
      · omega
      · rename_i w
        exact ⟨Classical.byContradiction z, w⟩
theorem sc_fit_n (F : sc_Fit N o nu) {p h : Nat} (H : sc_R N o nu p h) (ho : o p < 12) : p + 1 < N ∧ sc_R N o nu (p + 1) (sc_hn (o p) h) := by
  obtain ⟨c, f⟩ := sc_fit_can F H
  have h1 : p + 1 < N := Classical.byContradiction fun z => f (Or.inr ⟨ho, z⟩)
  exact ⟨h1, sc_R_s H ⟨c, h1, Or.inl ⟨ho, rfl⟩⟩⟩
theorem sc_fit_j (hN : N ≤ 20) (F : sc_Fit N o nu) {p h : Nat} (H : sc_R N o nu p h) (ho : o p = 11 ∨ o p = 12) : ∃ q, q < N ∧ nu p = nI q ∧ sc_R N o nu q (sc_hn (o p) h) := by
  obtain ⟨c, f⟩ := sc_fit_can F H
  have h1 : sc_in N (nu p) := Classical.byContradiction fun z => f (Or.inl ⟨ho, z⟩)
  obtain ⟨q, hq, e⟩ := (sc_in_iff hN).mp h1
  exact ⟨q, hq, e, sc_R_s H ⟨c, hq, Or.inr ⟨ho, e⟩⟩⟩
end
end
section
/-! X: needs, growth, inside, come, spread -/
theorem sc_14 {k : Nat} (h : k ≤ 13) : k = 0 ∨ k = 1 ∨ k = 2 ∨ k = 3 ∨ k = 4 ∨ k = 5 ∨ k = 6 ∨ k = 7 ∨ k = 8 ∨ k = 9 ∨ k = 10 ∨ k = 11 ∨ k = 12 ∨ k = 13 := by omega
theorem sc_xneeds {post : Int32 → Prop} {k : Nat} (hk : k ≤ 13) (h : post (nI (sc_nd k))) : wpX_needs post (nI k) := by
  rcases sc_14 hk with rfl | rfl | rfl | rfl | rfl | rfl | rfl | rfl | rfl | rfl | rfl | rfl | rfl | rfl <;>
    repeat (first | exact h | refine br_t (by decide) ?_ | refine br_f (by decide) ?_)
theorem sc_xgrowth {post : Int32 → Prop} {k : Nat} (hk : k ≤ 13) (h : post (sc_gr k)) : wpX_growth post (nI k) := by
  rcases sc_14 hk with rfl | rfl | rfl | rfl | rfl | rfl | rfl | rfl | rfl | rfl | rfl | rfl | rfl | rfl <;>
    repeat (first | exact h | refine br_t (by decide) ?_ | refine br_f (by decide) ?_)
def sc_NT (a : Nat → Int32) (T : Nat → Nat) : Prop := ∀ p, p < 20 → a p = nI (T p) ∧ T p < 16
theorem sc_NT_u {a : Nat → Int32} {T : Nat → Nat} (H : sc_NT a T) {p : Nat} (hp : p < 20) (c : Nat) (hc : c < 16) : sc_NT (upd a p (vp_nar .byte (((a p) ||| nI c).toInt8.toInt32))) (fun q => if q = p then T q ||| c else T q) := by
  intro q hq
  dsimp only
  by_cases e : q = p
  · subst e
    obtain ⟨h1, h2⟩ := H q hq
    have h3 := sc_nor_lt _ h2 c hc
    rw [pk_us, if_pos rfl, h1, sc_nor _ h2 c hc, sc_byte2 (by omega)]
    exact ⟨rfl, h3⟩
  · rw [pk_un e, if_neg e]; exact H q hq
theorem sc_NT_c {a : Nat → Int32} {T T' : Nat → Nat} (H : sc_NT a T) (h : ∀ p, p < 20 → T p = T' p) : sc_NT a T' := fun p hp => by
  rw [← h p hp]; exact H p hp
section
variable {sz jd cd cs kn sp st ax oc : Int32} {op nu hs nt wt CO CT LR LV RR RV ld cf ce be KR KV rg la : Nat → Int32}
variable {N : Nat} {o : Nat → Nat} {A W : Nat → Nat → Prop} {T : Nat → Nat}
theorem sc_xinside {post : Int32 → Prop} {x : Int32} (h1 : sc_in N x → post 1) (h0 : ¬ sc_in N x → post 0) : wpX_inside post (nI N, jd, cd, cs, kn, sp, st, ax, oc, op, nu, hs, nt, wt, CO, CT, LR, LV, RR, RV, ld, cf, ce, be, KR, KV, rg, la) x := by
  by_cases a : x < 0
  · exact br_t a (h0 fun z => z.1 a)
  · by_cases b : nI N ≤ x
    · exact br_f a (br_t b (h0 fun z => z.2 b))
    · exact br_f a (br_f b (h1 ⟨a, b⟩))
theorem sc_xcome {post : SX → Prop} {h : Nat} {x : Int32} (hN : N ≤ 20) (H : sc_HS hs A) (Q : sc_WS wt W) (hh : h < 7)
    (k : ∀ hs' wt' : Nat → Int32, sc_HS hs' (fun q g => A q g ∨ (q < N ∧ x = nI q ∧ g = h)) → sc_WS wt' (fun q g => W q g ∨ (¬ A q g ∧ q < N ∧ x = nI q ∧ g = h)) → post (nI N, jd, cd, cs, kn, sp, st, ax, oc, op, nu, hs', nt, wt', CO, CT, LR, LV, RR, RV, ld, cf, ce, be, KR, KV, rg, la)) : wpX_come post (nI N, jd, cd, cs, kn, sp, st, ax, oc, op, nu, hs, nt, wt, CO, CT, LR, LV, RR, RV, ld, cf, ce, be, KR, KV, rg, la) x (nI h) := by
  unfold wpX_come
  dsimp only
  refine sc_xinside (fun hin => ?_) (fun hout => ?_)
  · obtain ⟨p, hp, rfl⟩ := (sc_in_iff hN).mp hin
    refine br_f (by decide) ⟨vp_in_nI (by omega) (by omega), ?_⟩
    rw [nI_clamp (by omega)]
    have pe : ∀ q, q < 20 → (nI p = nI q ↔ q = p) := fun q hq => (nI_eq (by omega) (by omega)).trans ⟨Eq.symm, Eq.symm⟩
    by_cases ha : A p h
    · refine br_f (fun e => (sc_HS_b0 H (by omega) hh).mp e ha) (k hs wt (sc_HS_c H fun q g hq hg => ?_) (sc_WS_c Q fun q g hq hg => ?_))
      · rw [pe q hq]
        exact ⟨Or.inl, fun z => z.elim id (fun w => by rw [w.2.1, w.2.2]; exact ha)⟩
      · rw [pe q hq]
        exact ⟨Or.inl, fun z => z.elim id (fun w => absurd ha (by rw [w.2.2.1, w.2.2.2] at w; exact w.1))⟩
    · refine br_t ((sc_HS_b0 H (by omega) hh).mpr ha) ⟨vp_in_nI (by omega) (by omega), vp_in_nI (by omega) (by omega), nm_e ?_⟩
      have e : nI p * 7 + nI h = nI (p * 7 + h) := by rw [show (7 : Int32) = nI 7 from rfl, pk_mul, nI_add]
      rw [e, nI_clamp (n := p * 7 + h) (by omega), sc_nar1]
      refine ⟨vp_in_nI (by omega) (by omega), nm_e (k _ _ (sc_HS_c (sc_HS_u H (by omega) hh) fun q g hq hg => ?_) (sc_WS_c (sc_WS_1 Q hh) fun q g hq hg => ?_))⟩
      · rw [pe q hq]
        exact ⟨fun z => z.elim Or.inl (fun w => Or.inr ⟨by omega, w.1, w.2⟩), fun z => z.elim Or.inl (fun w => Or.inr ⟨w.2.1, w.2.2⟩)⟩
      · rw [pe q hq]
        exact ⟨fun z => z.elim Or.inl (fun w => Or.inr ⟨by rw [w.1, w.2]; exact ha, by omega, w.1, w.2⟩), fun z => z.elim Or.inl (fun w => Or.inr ⟨w.2.2.1, w.2.2.2⟩)⟩
  · refine br_t rfl (k hs wt (sc_HS_c H fun q g hq hg => ?_) (sc_WS_c Q fun q g hq hg => ?_))
    · exact ⟨Or.inl, fun z => z.elim id (fun w => absurd ((sc_in_iff hN).mpr ⟨q, w.1, w.2.1⟩) hout)⟩
    · exact ⟨Or.inl, fun z => z.elim id (fun w => absurd ((sc_in_iff hN).mpr ⟨q, w.2.1, w.2.2.1⟩) hout)⟩
theorem sc_xs154 {post : SX → Prop} {p h : Nat} {x5 x6 : Int32} {j f : Prop} (hN : N ≤ 20) (hp : p < N) (H : sc_HS hs A) (Q : sc_WS wt W) (hh : h < 7) (h5 : x5 = 0 ↔ ¬ j) (h6 : x6 = 0 ↔ ¬ f)
    (k : ∀ hs' wt' : Nat → Int32, sc_HS hs' (fun q g => A q g ∨ (q < N ∧ ((j ∧ nu p = nI q) ∨ (f ∧ q = p + 1)) ∧ g = h)) → sc_WS wt' (fun q g => W q g ∨ (¬ A q g ∧ q < N ∧ ((j ∧ nu p = nI q) ∨ (f ∧ q = p + 1)) ∧ g = h)) → post (nI N, jd, cd, cs, kn, sp, st, ax, oc, op, nu, hs', nt, wt', CO, CT, LR, LV, RR, RV, ld, cf, ce, be, KR, KV, rg, la)) :
    wX_spread_154 post (nI p) (nI h) x5 x6 (nI N) jd cd cs kn sp st ax oc op nu hs nt wt CO CT LR LV RR RV ld cf ce be KR KV rg la := by
  have pe : ∀ q, q < 20 → (nI p + 1 = nI q ↔ q = p + 1) := fun q hq => by rw [nI_1, nI_eq (by omega) (by omega)]; exact ⟨Eq.symm, Eq.symm⟩
  have K171 : ∀ (A1 W1 : Nat → Nat → Prop) (hs1 wt1 : Nat → Int32), sc_HS hs1 A1 → sc_WS wt1 W1 → (∀ q g, q < 20 → g < 7 → (A1 q g ↔ A q g ∨ (q < N ∧ (j ∧ nu p = nI q) ∧ g = h))) → (∀ q g, q < 20 → g < 7 → (W1 q g ↔ W q g ∨ (¬ A q g ∧ q < N ∧ (j ∧ nu p = nI q) ∧ g = h))) → wX_spread_171 post (nI p) (nI h) x6 (nI N) jd cd cs kn sp st ax oc op nu hs1 nt wt1 CO CT LR LV RR RV ld cf ce be KR KV rg la := by
    intro A1 W1 hs1 wt1 H1 Q1 ea ew
    by_cases z : x6 = 0
    · have nf := h6.mp z
      refine br_t z (k hs1 wt1 (sc_HS_c H1 fun q g hq hg => ?_) (sc_WS_c Q1 fun q g hq hg => ?_))
      · rw [ea q g hq hg]; grind
      · rw [ew q g hq hg]; grind
    · have ff : f := Classical.byContradiction fun w => z (h6.mpr w)
      refine br_f z (sc_xcome hN H1 Q1 hh fun hs' wt' H' Q' => k hs' wt' (sc_HS_c H' fun q g hq hg => ?_) (sc_WS_c Q' fun q g hq hg => ?_))
      · rw [pe q hq, ea q g hq hg]; grind
      · rw [pe q hq, ea q g hq hg, ew q g hq hg]; grind
  by_cases z : x5 = 0
  · have nj := h5.mp z
    refine br_t z (K171 A W hs wt H Q (fun q g _ _ => ?_) (fun q g _ _ => ?_))
    · grind
    · grind
  · have jj : j := Classical.byContradiction fun w => z (h5.mpr w)
    refine br_f z ⟨vp_in_nI (by omega) (by omega), ?_⟩
    rw [nI_clamp (by omega)]
    refine sc_xcome hN H Q hh fun hs' wt' H' Q' => K171 _ _ hs' wt' H' Q' (fun q g _ _ => ?_) (fun q g _ _ => ?_)
    · grind
    · grind
theorem sc_xs104 {post : SX → Prop} {p : Nat} {x4 x5 x6 : Int32} {j f : Prop} (hN : N ≤ 20) (hp : p < N) (TT : sc_NT nt T) (h5 : x5 = 0 ↔ ¬ j) (h6 : x6 = 0 ↔ ¬ f)
    (k0 : ¬ ((j ∧ ¬ sc_in N (nu p)) ∨ (f ∧ ¬ p + 1 < N)) → wX_spread_154 post (nI p) x4 x5 x6 (nI N) jd cd cs kn sp st ax oc op nu hs nt wt CO CT LR LV RR RV ld cf ce be KR KV rg la)
    (k4 : (j ∧ ¬ sc_in N (nu p)) ∨ (f ∧ ¬ p + 1 < N) → ∀ nt' : Nat → Int32, sc_NT nt' (fun q => if q = p then T q ||| 4 else T q) → wX_spread_154 post (nI p) x4 x5 x6 (nI N) jd cd cs kn sp st ax oc op nu hs nt' wt CO CT LR LV RR RV ld cf ce be KR KV rg la) :
    wX_spread_104 post (nI p) x4 x5 x6 (nI N) jd cd cs kn sp st ax oc op nu hs nt wt CO CT LR LV RR RV ld cf ce be KR KV rg la := by
  have pe : sc_in N (nI p + 1) ↔ p + 1 < N := by rw [nI_1, sc_in_nI hN (by omega)]
  have K139 : (j ∧ ¬ sc_in N (nu p)) ∨ (f ∧ ¬ p + 1 < N) → wX_spread_139 post (nI p) x4 x5 x6 (nI N) jd cd cs kn sp st ax oc op nu hs nt wt CO CT LR LV RR RV ld cf ce be KR KV rg la := by
    intro z
    unfold wX_spread_139
    rw [nI_clamp (by omega)]
    exact ⟨vp_in_nI (by omega) (by omega), vp_in_nI (by omega) (by omega), nm_e (k4 z _ (sc_NT_u TT (by omega) 4 (by decide)))⟩
  have K124 : ¬ (j ∧ ¬ sc_in N (nu p)) → wX_spread_124 post (nI p) x4 x5 x6 (nI N) jd cd cs kn sp st ax oc op nu hs nt wt CO CT LR LV RR RV ld cf ce be KR KV rg la := by
    intro z
    by_cases y : x6 = 0
    · exact br_t y (k0 fun w => w.elim z (fun v => h6.mp y v.1))
    · have ff : f := Classical.byContradiction fun w => y (h6.mpr w)
      refine br_f y (sc_xinside (fun hin => br_f (by decide) (k0 fun w => w.elim z (fun v => v.2 (pe.mp hin)))) (fun hout => br_t rfl (K139 (Or.inr ⟨ff, fun w => hout (pe.mpr w)⟩))))
  by_cases z : x5 = 0
  · exact br_t z (K124 fun w => h5.mp z w.1)
  · have jj : j := Classical.byContradiction fun w => z (h5.mpr w)
    refine br_f z ⟨vp_in_nI (by omega) (by omega), ?_⟩
    rw [nI_clamp (by omega)]
    exact sc_xinside (fun hin => br_f (by decide) (K124 fun w => w.2 hin)) (fun hout => br_t rfl (K139 (Or.inl ⟨jj, hout⟩)))
theorem sc_xspread {post : SX → Prop} {p h : Nat} (P : sc_PO N op o nu) (hp : p < N) (hh : h < 7) (H : sc_HS hs A) (Q : sc_WS wt W) (TT : sc_NT nt T)
    (k : ∀ hs' nt' wt' : Nat → Int32, sc_HS hs' (fun q g => A q g ∨ (sc_st N o nu p h q ∧ g = sc_hn (o p) h)) → sc_WS wt' (fun q g => W q g ∨ (¬ A q g ∧ sc_st N o nu p h q ∧ g = sc_hn (o p) h)) → sc_NT nt' (fun q => if q = p then T q ||| sc_ct N o nu p h else T q) → post (nI N, jd, cd, cs, kn, sp, st, ax, oc, op, nu, hs', nt', wt', CO, CT, LR, LV, RR, RV, ld, cf, ce, be, KR, KV, rg, la)) :
    wpX_spread post (nI N, jd, cd, cs, kn, sp, st, ax, oc, op, nu, hs, nt, wt, CO, CT, LR, LV, RR, RV, ld, cf, ce, be, KR, KV, rg, la) (nI p) (nI h) := by
  have hN := P.1
  obtain ⟨eo, ho, -⟩ := P.2 p
  have h2 := sc_nd_le (o p)
  unfold wpX_spread
  dsimp only
  refine ⟨vp_in_nI (by omega) (by omega), nm_r (e' := nI (o p)) (by rw [nI_clamp (by omega), eo]) (sc_xneeds ho ?_)⟩
  have noA : ¬ sc_can (o p) h → (∀ q g, q < 20 → g < 7 → (A q g ↔ A q g ∨ (sc_st N o nu p h q ∧ g = sc_hn (o p) h))) := fun z q g _ _ => ⟨Or.inl, fun w => w.elim id (fun v => absurd v.1.1 z)⟩
  have noW : ¬ sc_can (o p) h → (∀ q g, q < 20 → g < 7 → (W q g ↔ W q g ∨ (¬ A q g ∧ sc_st N o nu p h q ∧ g = sc_hn (o p) h))) := fun z q g _ _ => ⟨Or.inl, fun w => w.elim id (fun v => absurd v.2.1.1 z)⟩
  refine pk_le (sc_nd (o p)) h (fun hn => ?_) (fun hn => ?_)
  · refine sc_xgrowth ho ?_
    have K60 : sc_can (o p) h → wX_spread_60 post (nI p) (nI h) (nI (o p)) (nI N) jd cd cs kn sp st ax oc op nu hs nt wt CO CT LR LV RR RV ld cf ce be KR KV rg la := by
      intro hc
      refine sc_xgrowth ho (nm_r (sc_grh hn) ?_)
      have h7 := sc_hn_7 hc hh
      have K104 : ∀ x5 x6 : Int32, (x5 = 0 ↔ ¬ (o p = 11 ∨ o p = 12)) → (x6 = 0 ↔ ¬ o p < 12) → wX_spread_104 post (nI p) (nI (sc_hn (o p) h)) x5 x6 (nI N) jd cd cs kn sp st ax oc op nu hs nt wt CO CT LR LV RR RV ld cf ce be KR KV rg la := by
        intro x5 x6 h5 h6
        have sw : ∀ q, (q < N ∧ (((o p = 11 ∨ o p = 12) ∧ nu p = nI q) ∨ (o p < 12 ∧ q = p + 1))) ↔ sc_st N o nu p h q := fun q => by
          unfold sc_st; grind
        refine sc_xs104 hN hp TT h5 h6 (fun z => ?_) (fun z nt' TT' => ?_)
        · refine sc_xs154 hN hp H Q h7 h5 h6 (fun hs' wt' H' Q' => k hs' nt wt' (sc_HS_c H' fun q g _ _ => ?_) (sc_WS_c Q' fun q g _ _ => ?_) (sc_NT_c TT fun q _ => ?_))
          · rw [← sw q]; grind
          · rw [← sw q]; grind
          · have e : sc_ct N o nu p h = 0 := by
              unfold sc_ct
              rw [if_neg (by omega), if_neg (fun w => w hc), if_neg z]
            rw [e, Nat.or_zero, ite_self]
        · refine sc_xs154 hN hp H Q h7 h5 h6 (fun hs' wt' H' Q' => k hs' nt' wt' (sc_HS_c H' fun q g _ _ => ?_) (sc_WS_c Q' fun q g _ _ => ?_) ?_)
          · rw [← sw q]; grind
          · rw [← sw q]; grind
          · have e : sc_ct N o nu p h = 4 := by
              unfold sc_ct
              rw [if_neg (by omega), if_neg (fun w => w hc), if_pos z]
            rw [e]; exact TT'
      have K85 : ∀ x5 : Int32, (x5 = 0 ↔ ¬ (o p = 11 ∨ o p = 12)) → wX_spread_85 post (nI p) (nI (o p)) (nI (sc_hn (o p) h)) x5 (nI N) jd cd cs kn sp st ax oc op nu hs nt wt CO CT LR LV RR RV ld cf ce be KR KV rg la := by
        intro x5 h5
        refine pk_eq (o p) 12 (fun z => K104 x5 0 h5 ⟨fun _ => by omega, fun _ => rfl⟩) (fun z => pk_eq (o p) 13 (fun z => K104 x5 0 h5 ⟨fun _ => by omega, fun _ => rfl⟩) (fun z' => K104 x5 1 h5 ⟨fun w => absurd w (by decide), fun w => absurd (show o p < 12 by omega) w⟩))
      refine pk_eq (o p) 11 (fun z => K85 1 ⟨fun w => absurd w (by decide), fun w => absurd (Or.inl z) w⟩) (fun z => pk_eq (o p) 12 (fun z => K85 1 ⟨fun w => absurd w (by decide), fun w => absurd (Or.inr z) w⟩) (fun z' => K85 0 ⟨fun _ => by omega, fun _ => rfl⟩))
    by_cases u : sc_up (o p)
    · refine br_f (fun z => sc_gr_le.mp z u) (pk_lt h 6 (fun z => K60 ⟨hn, Or.inl z⟩) (fun z => ?_))
      have nc : ¬ sc_can (o p) h := fun w => w.2.elim (by omega) (fun v => v u)
      refine ⟨vp_in_nI (by omega) (by omega), vp_in_nI (by omega) (by omega), ?_⟩
      rw [nI_clamp (by omega)]
      refine nm_e (k hs _ wt (sc_HS_c H (noA nc)) (sc_WS_c Q (noW nc)) ?_)
      have e : sc_ct N o nu p h = 2 := by
        unfold sc_ct
        rw [if_neg (by omega), if_pos nc]
      rw [e]
      exact sc_NT_u TT (by omega) 2 (by decide)
    · exact br_t (sc_gr_le.mpr u) (K60 ⟨hn, Or.inr u⟩)
  · have nc : ¬ sc_can (o p) h := fun w => by have := w.1; omega
    refine ⟨vp_in_nI (by omega) (by omega), vp_in_nI (by omega) (by omega), ?_⟩
    rw [nI_clamp (by omega)]
    refine nm_e (k hs _ wt (sc_HS_c H (noA nc)) (sc_WS_c Q (noW nc)) ?_)
    have e : sc_ct N o nu p h = 1 := by
      unfold sc_ct
      rw [if_pos hn]
    rw [e]
    exact sc_NT_u TT (by omega) 1 (by decide)
end
end
section
/-! X: judge -/
def sc_JI (N : Nat) (o : Nat → Nat) (nu : Nat → Int32) (A W : Nat → Nat → Prop) (T : Nat → Nat) : Prop :=
  (0 < N → A 0 0) ∧ (∀ p h, p < 20 → h < 7 → A p h → sc_R N o nu p h) ∧ (∀ p h, p < 20 → h < 7 → W p h → A p h) ∧
  (∀ p h q, p < 20 → h < 7 → A p h → ¬ W p h → sc_st N o nu p h q → A q (sc_hn (o p) h)) ∧
  (∀ p, p < 20 → T p = sc_os (fun h => sc_if (A p h ∧ ¬ W p h) (sc_ct N o nu p h)) 7)
def sc_NW (W : Nat → Nat → Prop) : Prop := ∀ p h, p < 20 → h < 7 → ¬ W p h
def sc_fl (A W : Nat → Nat → Prop) (i : Nat) : Prop := A (i / 7) (i % 7) ∧ ¬ W (i / 7) (i % 7)
section
variable {N : Nat} {o : Nat → Nat} {nu : Nat → Int32} {A W : Nat → Nat → Prop} {T : Nat → Nat}
theorem sc_JI_s {p h : Nat} (hN : N ≤ 20) (J : sc_JI N o nu A W T) (hp : p < 20) (hh : h < 7) (hw : W p h) :
    sc_JI N o nu (fun q g => A q g ∨ (sc_st N o nu p h q ∧ g = sc_hn (o p) h)) (fun q g => (W q g ∧ ¬ (q = p ∧ g = h)) ∨ (¬ A q g ∧ sc_st N o nu p h q ∧ g = sc_hn (o p) h)) (fun q => if q = p then T q ||| sc_ct N o nu p h else T q) := by
  obtain ⟨j0, j1, j2, j3, j4⟩ := J
  have ha := j2 p h hp hh hw
  have hr := j1 p h hp hh ha
  refine ⟨fun z => Or.inl (j0 z), ?_, ?_, ?_, ?_⟩
  · intro q g hq hg z
    rcases z with z | ⟨z, rfl⟩
    · exact j1 q g hq hg z
    · exact sc_R_s hr z
  · intro q g hq hg z
    rcases z with z | z
    · exact Or.inl (j2 q g hq hg z.1)
    · exact Or.inr z.2
  · intro q g r hq hg z nw s
    rcases Classical.em (A q g) with a | a
    · rcases Classical.em (q = p ∧ g = h) with e | e
      · obtain ⟨rfl, rfl⟩ := e
        exact Or.inr ⟨s, rfl⟩
      · exact Or.inl (j3 q g r hq hg a (fun w => nw (Or.inl ⟨w, e⟩)) s)
    · rcases z with z | z
      · exact absurd z a
      · exact absurd (Or.inr ⟨a, z⟩) nw
  · intro q hq
    dsimp only
    by_cases e : q = p
    · subst e
      rw [if_pos rfl, j4 q hq]
      have key := sc_os_u (f := fun g => sc_if (A q g ∧ ¬ W q g) (sc_ct N o nu q g)) (g := fun g => sc_if ((A q g ∨ (sc_st N o nu q h q ∧ g = sc_hn (o q) h)) ∧ ¬ ((W q g ∧ ¬ (q = q ∧ g = h)) ∨ (¬ A q g ∧ sc_st N o nu q h q ∧ g = sc_hn (o q) h))) (sc_ct N o nu q g)) (a := h) (sc_if_f (fun z => z.2 hw)) (fun g hg => sc_if_c (by grind)) (n := 7) hh
      rw [key]
      rw [sc_if_t ⟨Or.inl ha, fun z => z.elim (fun w => w.2 ⟨rfl, rfl⟩) (fun w => w.1 ha)⟩]
    · rw [if_neg e, j4 q hq]
      exact sc_os_c fun g hg => sc_if_c (by grind)
theorem sc_JI_n {p h : Nat} (J : sc_JI N o nu A W T) (hp : p < 20) (hh : h < 7) (hw : W p h) :
    sc_cn (sc_fl A W) 140 < sc_cn (sc_fl (fun q g => A q g ∨ (sc_st N o nu p h q ∧ g = sc_hn (o p) h)) (fun q g => (W q g ∧ ¬ (q = p ∧ g = h)) ∨ (¬ A q g ∧ sc_st N o nu p h q ∧ g = sc_hn (o p) h))) 140 := by
  have ha := J.2.2.1 p h hp hh hw
  have e1 : (p * 7 + h) / 7 = p := by omega
  have e2 : (p * 7 + h) % 7 = h := by omega
  refine sc_cn_lt (a := p * 7 + h) ?_ ?_ ?_ (by omega)
  · unfold sc_fl
    rw [e1, e2]
    exact fun z => z.2 hw
  · unfold sc_fl
    rw [e1, e2]
    exact ⟨Or.inl ha, fun z => z.elim (fun w => w.2 ⟨rfl, rfl⟩) (fun w => w.1 ha)⟩
  · intro k hk z
    unfold sc_fl at z ⊢
    refine ⟨Or.inl z.1, fun w => w.elim (fun v => z.2 v.1) (fun v => v.1 z.1)⟩
theorem sc_JI_r (J : sc_JI N o nu A W T) (hN : N ≤ 20) (nw : sc_NW W) : (∀ p h, p < 20 → h < 7 → (A p h ↔ sc_R N o nu p h)) ∧ ∀ p, p < 20 → T p = sc_fo N o nu p := by
  obtain ⟨j0, j1, j2, j3, j4⟩ := J
  have e : ∀ p h, p < 20 → h < 7 → (A p h ↔ sc_R N o nu p h) := fun p h hp hh => ⟨j1 p h hp hh, fun z => sc_R_min A j0 (fun p h q h1 h2 ha s => j3 p h q (by omega) h2 ha (nw p h (by omega) h2) s) z⟩
  refine ⟨e, fun p hp => ?_⟩
  rw [j4 p hp]
  exact sc_os_c fun h hh => sc_if_c ⟨fun z => (e p h hp hh).mp z.1, fun z => ⟨(e p h hp hh).mpr z, nw p h hp hh⟩⟩
end
theorem sc_mix : ∀ m, m < 128 → ((nI m &&& (nI m - 1)) = 0 ↔ ((m.testBit 0).toNat + (m.testBit 1).toNat + (m.testBit 2).toNat + (m.testBit 3).toNat + (m.testBit 4).toNat + (m.testBit 5).toNat + (m.testBit 6).toNat) ≤ 1) := by decide +kernel
theorem sc_b_bool {P : Prop} {b : Bool} (h : b = true ↔ P) : sc_b P = b.toNat := by
  cases b with
  | true => exact sc_b_t (h.mp rfl)
  | false => exact sc_b_f (fun z => absurd (h.mpr z) (by decide))
theorem sc_HS_mix {a : Nat → Int32} {A : Nat → Nat → Prop} (H : sc_HS a A) {p : Nat} (hp : p < 20) : ((a p) &&& ((a p) - 1)) = 0 ↔ sc_cn (A p) 7 ≤ 1 := by
  obtain ⟨m, h1, h2, h3⟩ := H p hp
  rw [h2, sc_mix m h1]
  simp only [sc_cn]
  rw [sc_b_bool (h3 0 (by decide)), sc_b_bool (h3 1 (by decide)), sc_b_bool (h3 2 (by decide)), sc_b_bool (h3 3 (by decide)), sc_b_bool (h3 4 (by decide)), sc_b_bool (h3 5 (by decide)), sc_b_bool (h3 6 (by decide)), Nat.zero_add]
def sc_JD (N : Nat) (o : Nat → Nat) (nu hs nt : Nat → Int32) : Prop := sc_HS hs (sc_R N o nu) ∧ ∀ p, p < N → nt p = nI (sc_fv N o nu p)
section
variable {sz jd cd cs kn sp st ax oc : Int32} {op nu hs nt wt CO CT LR LV RR RV ld cf ce be KR KV rg la : Nat → Int32}
variable {N : Nat} {o : Nat → Nat} {A W : Nat → Nat → Prop} {T : Nat → Nat}
theorem sc_xfw {post : Int32 → Prop} (h0 : (∀ i, i < 140 → wt i = 0) → post (-1)) (h1 : ∀ i, i < 140 → ¬ wt i = 0 → post (nI i)) : wpX_firstWaiting post (sz, jd, cd, cs, kn, sp, st, ax, oc, op, nu, hs, nt, wt, CO, CT, LR, LV, RR, RV, ld, cf, ce, be, KR, KV, rg, la) := by
  have key : ∀ d i, i + d = 140 → (∀ j, j < i → wt j = 0) → wX_firstWaiting_2 post sz jd cd cs kn sp st ax oc op nu hs nt wt CO CT LR LV RR RV ld cf ce be KR KV rg la (d + 1) (nI i) := by
    intro d
    induction d with
    | zero => intro i hi hz; exact br_t (nI_le (a := 140) (by omega) (by omega)) (h0 fun j hj => hz j (by omega))
    | succ d ih =>
      intro i hi hz
      refine br_f (nI_ge (b := 140) (by omega) (by omega)) ⟨vp_in_nI (by omega) (by omega), ?_⟩
      rw [nI_clamp (by omega)]
      by_cases z : wt i = 0
      · exact br_t z (nm_r (nI_1 i) (ih (i + 1) (by omega) (lt_s hz z)))
      · exact br_f z (h1 i (by omega) z)
  exact ⟨141, key 140 0 rfl (fun j hj => by omega)⟩
theorem sc_xj114 {post : SX → Prop} (hN : N ≤ 20) (H : sc_HS hs (sc_R N o nu)) (k : ∀ nt' : Nat → Int32, (∀ p, p < N → nt' p = nI (sc_fv N o nu p)) → post (nI N, jd, cd, cs, kn, sp, st, ax, oc, op, nu, hs, nt', wt, CO, CT, LR, LV, RR, RV, ld, cf, ce, be, KR, KV, rg, la)) :
    ∀ d i (nt : Nat → Int32), i + d = N → (∀ p, p < i → nt p = nI (sc_fv N o nu p)) → (∀ p, i ≤ p → p < 20 → nt p = nI (sc_fo N o nu p)) → wX_judge_114 post (nI N) jd cd cs kn sp st ax oc (d + 1) (nI i) op nu hs nt wt CO CT LR LV RR RV ld cf ce be KR KV rg la := by
  intro d
  induction d with
  | zero => intro i nt hi h1 h2; exact br_t (nI_le (by omega) (by omega)) (k nt fun p hp => h1 p (by omega))
  | succ d ih =>
    intro i nt hi h1 h2
    refine br_f (nI_ge (by omega) (by omega)) ⟨vp_in_nI (by omega) (by omega), vp_in_nI (by omega) (by omega), ?_⟩
    rw [nI_clamp (by omega)]
    have hm := sc_HS_mix H (p := i) (by omega)
    by_cases z : ((hs i) &&& ((hs i) - 1)) = 0
    · refine br_t z (nm_r (nI_1 i) (ih (i + 1) nt (by omega) (lt_s h1 ?_) (fun p hp => h2 p (by omega))))
      rw [h2 i (Nat.le_refl _) (by omega)]
      unfold sc_fv
      rw [if_pos (hm.mp z)]
    · refine br_f z ⟨vp_in_nI (by omega) (by omega), vp_in_nI (by omega) (by omega), nm_e (nm_r (nI_1 i) (ih (i + 1) _ (by omega) (lt_s (fun p hp => ?_) ?_) (fun p hp hp2 => ?_)))⟩
      · rw [pk_un (by omega)]; exact h1 p hp
      · have l := sc_fo_lt (N := N) (o := o) (nu := nu) i
        have l2 := sc_nor_lt (sc_fo N o nu i) (by omega) 8 (by decide)
        rw [pk_us, h2 i (Nat.le_refl _) (by omega), show (8 : Int32) = nI 8 from rfl, sc_nor _ (by omega) 8 (by decide), sc_byte2 (by omega)]
        unfold sc_fv
        rw [if_neg (fun w => z (hm.mpr w))]
      · rw [pk_un (by omega)]; exact h2 p (by omega) hp2
theorem sc_xj71 {post : SX → Prop} (P : sc_PO N op o nu) (k : ∀ hs' nt' wt' : Nat → Int32, sc_JD N o nu hs' nt' → post (nI N, jd, cd, cs, kn, sp, st, ax, oc, op, nu, hs', nt', wt', CO, CT, LR, LV, RR, RV, ld, cf, ce, be, KR, KV, rg, la)) :
    ∀ d r (A W : Nat → Nat → Prop) (T : Nat → Nat) (hs nt wt : Nat → Int32), r + d = 140 → sc_HS hs A → sc_WS wt W → sc_NT nt T → sc_JI N o nu A W T → (sc_NW W ∨ r ≤ sc_cn (sc_fl A W) 140) → wX_judge_71 post (d + 1) (nI r) (nI N) jd cd cs kn sp st ax oc op nu hs nt wt CO CT LR LV RR RV ld cf ce be KR KV rg la := by
  have hN := P.1
  intro d
  induction d with
  | zero =>
    intro r A W T hs nt wt hr H Q TT J hc
    refine br_t (nI_le (a := 140) (by omega) (by omega)) ⟨N + 1, ?_⟩
    have nw : sc_NW W := by
      rcases hc with z | z
      · exact z
      · intro p h hp hh w
        have := sc_cn_full (P := sc_fl A W) (N := 140) (by omega) (p * 7 + h) (by omega)
        unfold sc_fl at this
        rw [show (p * 7 + h) / 7 = p by omega, show (p * 7 + h) % 7 = h by omega] at this
        exact this.2 w
    obtain ⟨ea, et⟩ := sc_JI_r J hN nw
    have H' := sc_HS_c H ea
    exact sc_xj114 hN H' (fun nt' h => k hs nt' wt ⟨H', h⟩) N 0 nt (by omega) (fun p hp => by omega) (fun p _ hp => by rw [(TT p hp).1, et p hp])
  | succ d ih =>
    intro r A W T hs nt wt hr H Q TT J hc
    refine br_f (nI_ge (b := 140) (by omega) (by omega)) (sc_xfw (fun hz => ?_) (fun i hi hz => ?_))
    · have nw : sc_NW W := fun p h hp hh => (Q p h hp hh).mp (hz _ (by omega))
      exact br_t (by decide) (nm_r (nI_1 r) (ih (r + 1) A W T hs nt wt (by omega) H Q TT J (Or.inl nw)))
    · have e : i = i / 7 * 7 + i % 7 := by omega
      have h20 : i / 7 < 20 := by omega
      have h7 : i % 7 < 7 := by omega
      have hw : W (i / 7) (i % 7) := Classical.byContradiction fun w => hz (by rw [e]; exact (Q _ _ h20 h7).mpr w)
      have hA := J.2.2.1 _ _ h20 h7 hw
      have hR := J.2.1 _ _ h20 h7 hA
      refine br_f (nI_pos (by omega)) ⟨vp_in_nI hi (by omega), ?_⟩
      rw [nI_clamp (by omega), sc_nar0]
      have e1 : nI i / 7 = nI (i / 7) := pk_div (d := 7) (by omega) (by decide) (by decide)
      have e2 : nI i - nI i / 7 * 7 = nI (i % 7) := pk_rem (d := 7) (by omega) (by decide) (by decide)
      rw [e2, e1]
      have Q0 := sc_WS_0 Q (p := i / 7) h7
      rw [← e] at Q0
      refine nm_e ⟨by decide, by decide, sc_xspread P (sc_R_lt hR).1 h7 H Q0 TT (fun hs' nt' wt' H' Q' TT' => ?_)⟩
      refine nm_r (nI_1 r) (ih (r + 1) _ _ _ hs' nt' wt' (by omega) H' Q' TT' (sc_JI_s hN J h20 h7 hw) ?_)
      have lt := sc_JI_n J h20 h7 hw
      rcases hc with z | z
      · exact absurd hw (z _ _ h20 h7)
      · exact Or.inr (by omega)
theorem sc_xj43 {post : SX → Prop} (P : sc_PO N op o nu) (h0 : ∀ p, p < 20 → hs p = 0) (n0 : ∀ p, p < 20 → nt p = 0) (k : ∀ hs' nt' wt' : Nat → Int32, sc_JD N o nu hs' nt' → post (nI N, jd, cd, cs, kn, sp, st, ax, oc, op, nu, hs', nt', wt', CO, CT, LR, LV, RR, RV, ld, cf, ce, be, KR, KV, rg, la)) :
    ∀ d i (wt : Nat → Int32), i + d = 140 → (∀ j, j < i → wt j = 0) → wX_judge_43 post (nI N) jd cd cs kn sp st ax oc (d + 1) (nI i) op nu hs nt wt CO CT LR LV RR RV ld cf ce be KR KV rg la := by
  intro d
  induction d with
  | zero =>
    intro i wt hi hz
    have Q : sc_WS wt (fun _ _ => False) := fun p h hp hh => ⟨fun _ z => z, fun _ => hz _ (by omega)⟩
    refine br_t (nI_le (a := 140) (by omega) (by omega)) (sc_xcome (h := 0) (x := 0) P.1 (sc_HS_0 h0) Q (by decide) (fun hs' wt' H' Q' => ?_))
    refine ⟨141, sc_xj71 P k 140 0 _ _ (fun _ => 0) hs' nt wt' rfl H' Q' (fun p hp => ⟨n0 p hp, Nat.zero_lt_succ 15⟩) ⟨fun z => Or.inr ⟨z, rfl, rfl⟩, ?_, ?_, ?_, ?_⟩ (Or.inr (Nat.zero_le _))⟩
    · intro p h hp hh z
      rcases z with z | ⟨z, e, rfl⟩
      · exact z.elim
      · have e' : 0 = p := (nI_eq (a := 0) (by decide) (by omega)).mp e
        subst e'
        exact sc_R_0 z
    · intro p h _ _ z
      exact z.elim False.elim (fun w => Or.inr w.2)
    · intro p h q _ _ z nw
      exact absurd (z.elim False.elim (fun w => Or.inr ⟨fun v => v, w⟩)) nw
    · intro p hp
      refine (sc_os_0.mpr fun h hh => sc_if_f (fun z => ?_)).symm
      exact z.2 (z.1.elim False.elim (fun w => Or.inr ⟨fun v => v, w⟩))
  | succ d ih =>
    intro i wt hi hz
    refine br_f (nI_ge (b := 140) (by omega) (by omega)) ⟨vp_in_nI (by omega) (by omega), ?_⟩
    rw [nI_clamp (by omega), sc_nar0]
    refine nm_e (nm_r (nI_1 i) (ih (i + 1) _ (by omega) (lt_s (fun j hj => ?_) ?_)))
    · rw [pk_un (by omega)]; exact hz j hj
    · exact pk_us
theorem sc_xj15 {post : SX → Prop} (P : sc_PO N op o nu) (k : ∀ hs' nt' wt' : Nat → Int32, sc_JD N o nu hs' nt' → post (nI N, jd, cd, cs, kn, sp, st, ax, oc, op, nu, hs', nt', wt', CO, CT, LR, LV, RR, RV, ld, cf, ce, be, KR, KV, rg, la)) :
    ∀ d i (hs nt : Nat → Int32), i + d = 20 → (∀ j, j < i → hs j = 0) → (∀ j, j < i → nt j = 0) → wX_judge_15 post (nI N) jd cd cs kn sp st ax oc (d + 1) (nI i) op nu hs nt wt CO CT LR LV RR RV ld cf ce be KR KV rg la := by
  intro d
  induction d with
  | zero =>
    intro i hs nt hi hz nz
    have e : i = 20 := by omega
    subst e
    exact br_t (nI_le (a := 20) (by omega) (by omega)) ⟨141, sc_xj43 P hz nz k 140 0 wt rfl (fun j hj => by omega)⟩
  | succ d ih =>
    intro i hs nt hi hz nz
    refine br_f (nI_ge (b := 20) (by omega) (by omega)) ⟨vp_in_nI (by omega) (by omega), ?_⟩
    rw [nI_clamp (by omega), show vp_nar .byte 0 = 0 from sc_byte (m := 0) (by decide)]
    refine nm_e ⟨vp_in_nI (by omega) (by omega), nm_e (nm_r (nI_1 i) (ih (i + 1) _ _ (by omega) (lt_s (fun j hj => ?_) ?_) (lt_s (fun j hj => ?_) ?_)))⟩
    · rw [pk_un (by omega)]; exact hz j hj
    · exact pk_us
    · rw [pk_un (by omega)]; exact nz j hj
    · exact pk_us
theorem sc_xjudge {post : SX → Prop} (P : sc_PO N op o nu) (hj : jd = 0 ∨ (jd = 1 ∧ sc_JD N o nu hs nt)) (k : ∀ hs' nt' wt' : Nat → Int32, sc_JD N o nu hs' nt' → post (nI N, 1, cd, cs, kn, sp, st, ax, oc, op, nu, hs', nt', wt', CO, CT, LR, LV, RR, RV, ld, cf, ce, be, KR, KV, rg, la)) : wpX_judge post (nI N, jd, cd, cs, kn, sp, st, ax, oc, op, nu, hs, nt, wt, CO, CT, LR, LV, RR, RV, ld, cf, ce, be, KR, KV, rg, la) := by
  rcases hj with rfl | ⟨rfl, D⟩
  · exact br_t rfl ⟨21, sc_xj15 P k 20 0 hs nt rfl (fun j hj => by omega) (fun j hj => by omega)⟩
  · exact br_f (by decide) (k hs nt wt D)
end
end
section
/-! Y: need, rise, inside, can, reach, follow -/
section
variable {sz cm ay tu tl sd : Int32} {op nu cy sk lc la : Nat → Int32}
variable {N : Nat} {o : Nat → Nat} {A : Nat → Nat → Prop}
theorem sc_yneed {post : Int32 → Prop} {k : Nat} (hk : k ≤ 13) (h : post (nI (sc_nd k))) : wpY_need post (sz, cm, ay, tu, tl, sd, op, nu, cy, sk, lc, la) (nI k) := by
  rcases sc_14 hk with rfl | rfl | rfl | rfl | rfl | rfl | rfl | rfl | rfl | rfl | rfl | rfl | rfl | rfl <;>
    repeat (first | exact h | refine br_t (by decide) ?_ | refine br_f (by decide) ?_)
theorem sc_yrise {post : Int32 → Prop} {k : Nat} (hk : k ≤ 13) (h : post (sc_gr k)) : wpY_rise post (sz, cm, ay, tu, tl, sd, op, nu, cy, sk, lc, la) (nI k) := by
  rcases sc_14 hk with rfl | rfl | rfl | rfl | rfl | rfl | rfl | rfl | rfl | rfl | rfl | rfl | rfl | rfl <;>
    repeat (first | exact h | refine br_t (by decide) ?_ | refine br_f (by decide) ?_)
theorem sc_yinside {post : Int32 → Prop} {x : Int32} (h1 : sc_in N x → post 1) (h0 : ¬ sc_in N x → post 0) : wpY_inside post (nI N, cm, ay, tu, tl, sd, op, nu, cy, sk, lc, la) x := by
  by_cases a : x < 0
  · exact br_t a (h0 fun z => z.1 a)
  · by_cases b : nI N ≤ x
    · exact br_f a (br_t b (h0 fun z => z.2 b))
    · exact br_f a (br_f b (h1 ⟨a, b⟩))
theorem sc_ycan {post : Int32 → Prop} {p h : Nat} (P : sc_PO N op o nu) (hp : p < N) (hh : h < 7) (h1 : sc_can (o p) h → post 1) (h0 : ¬ sc_can (o p) h → post 0) : wpY_can post (nI N, cm, ay, tu, tl, sd, op, nu, cy, sk, lc, la) (nI p) (nI h) := by
  have hN := P.1
  obtain ⟨eo, ho, -⟩ := P.2 p
  have h2 := sc_nd_le (o p)
  unfold wpY_can
  dsimp only
  rw [nI_clamp (by omega), eo]
  refine ⟨vp_in_nI (by omega) (by omega), sc_yneed ho (pk_lt h (sc_nd (o p)) (fun z => h0 fun w => by have := w.1; omega) (fun z => pk_lt h 6 (fun y => h1 ⟨z, Or.inl y⟩) (fun y => ⟨vp_in_nI (by omega) (by omega), sc_yrise ho ?_⟩)))⟩
  by_cases u : sc_up (o p)
  · exact br_t (sc_gr_1.mpr u) (h0 fun w => w.2.elim (by omega) (fun v => v u))
  · exact br_f (fun w => u (sc_gr_1.mp w)) (h1 ⟨z, Or.inr u⟩)
theorem sc_yreach {post : Int32 → SY → Prop} {h : Nat} {x : Int32} (hN : N ≤ 20) (H : sc_HS cy A) (hh : h < 7)
    (k : ∀ (r : Int32) (cy' : Nat → Int32), sc_HS cy' (fun q g => A q g ∨ (q < N ∧ x = nI q ∧ g = h)) → ((r = 0 ∧ ∀ q, q < N → x = nI q → A q h) ∨ (r = 1 ∧ ∃ q, q < N ∧ x = nI q ∧ ¬ A q h)) → post r (nI N, cm, ay, tu, tl, sd, op, nu, cy', sk, lc, la)) : wpY_reach post (nI N, cm, ay, tu, tl, sd, op, nu, cy, sk, lc, la) x (nI h) := by
  unfold wpY_reach
  dsimp only
  refine sc_yinside (fun hin => ?_) (fun hout => ?_)
  · obtain ⟨p, hp, rfl⟩ := (sc_in_iff hN).mp hin
    refine br_f (by decide) ⟨vp_in_nI (by omega) (by omega), ?_⟩
    rw [nI_clamp (by omega)]
    have pe : ∀ q, q < 20 → (nI p = nI q ↔ q = p) := fun q hq => (nI_eq (by omega) (by omega)).trans ⟨Eq.symm, Eq.symm⟩
    by_cases ha : A p h
    · refine br_t ((sc_HS_b1 H (by omega) hh).mpr ha) (k 0 cy (sc_HS_c H fun q g hq hg => ?_) (Or.inl ⟨rfl, fun q hq e => ?_⟩))
      · rw [pe q hq]
        exact ⟨Or.inl, fun z => z.elim id (fun w => by rw [w.2.1, w.2.2]; exact ha)⟩
      · rw [(pe q (by omega)).mp e]; exact ha
    · refine br_f (fun e => ha ((sc_HS_b1 H (by omega) hh).mp e)) ⟨vp_in_nI (by omega) (by omega), vp_in_nI (by omega) (by omega), nm_e (k 1 _ (sc_HS_c (sc_HS_v H (by omega) hh) fun q g hq hg => ?_) (Or.inr ⟨rfl, p, hp, rfl, ha⟩))⟩
      rw [pe q hq]
      exact ⟨fun z => z.elim Or.inl (fun w => Or.inr ⟨by omega, w.1, w.2⟩), fun z => z.elim Or.inl (fun w => Or.inr ⟨w.2.1, w.2.2⟩)⟩
  · refine br_t rfl (k 0 cy (sc_HS_c H fun q g hq hg => ?_) (Or.inl ⟨rfl, fun q hq e => absurd ((sc_in_iff hN).mpr ⟨q, hq, e⟩) hout⟩))
    exact ⟨Or.inl, fun z => z.elim id (fun w => absurd ((sc_in_iff hN).mpr ⟨q, w.1, w.2.1⟩) hout)⟩
theorem sc_y198 {post : SY → Prop} {J40 J55 : Int32 → Int32 → Int32 → Int32 → Int32 → Int32 → Int32 → Int32 → (Nat → Int32) → (Nat → Int32) → (Nat → Int32) → (Nat → Int32) → (Nat → Int32) → (Nat → Int32) → Prop} {x1 x2 x7 z0 : Int32} {c : Nat}
    (k0 : x1 = 0 → x7 = 0 → z0 = 0 → J55 0 (nI (c + 1)) sz cm ay tu tl sd op nu cy sk lc la) (k1 : ¬ (x1 = 0 ∧ x7 = 0 ∧ z0 = 0) → J55 1 (nI (c + 1)) sz cm ay tu tl sd op nu cy sk lc la) : wY_follow_198 post J40 J55 x1 x2 (nI c) x7 z0 sz cm ay tu tl sd op nu cy sk lc la := by
  by_cases a : x1 = 0
  · by_cases b : x7 = 0
    · by_cases d : z0 = 0
      · exact br_t a (br_t b (br_t d (nm_r (nI_1 c) (k0 a b d))))
      · exact br_t a (br_t b (br_f d (nm_r (nI_1 c) (k1 fun w => d w.2.2))))
    · exact br_t a (br_f b (nm_r (nI_1 c) (k1 fun w => b w.2.1)))
  · exact br_f a (nm_r (nI_1 c) (k1 fun w => a w.1))
theorem sc_y151 {post : SY → Prop} {J40 J55 : Int32 → Int32 → Int32 → Int32 → Int32 → Int32 → Int32 → Int32 → (Nat → Int32) → (Nat → Int32) → (Nat → Int32) → (Nat → Int32) → (Nat → Int32) → (Nat → Int32) → Prop} {x1 x2 x7 : Int32} {c p h : Nat}
    (P : sc_PO N op o nu) (hp : p < N) (hh : h < 7) (H : sc_HS cy A)
    (k : ∀ (x1' : Int32) (cy' : Nat → Int32), sc_HS cy' (fun q g => A q g ∨ (q < N ∧ ((o p = 11 ∨ o p = 12) ∧ nu p = nI q) ∧ g = h)) → ((x1' = 0 ∧ x1 = 0 ∧ x7 = 0 ∧ ∀ q, q < N → (o p = 11 ∨ o p = 12) → nu p = nI q → A q h) ∨ (x1' = 1 ∧ (¬ x1 = 0 ∨ ¬ x7 = 0 ∨ ∃ q, q < N ∧ (o p = 11 ∨ o p = 12) ∧ nu p = nI q ∧ ¬ A q h))) → J55 x1' (nI (c + 1)) (nI N) cm ay tu tl sd op nu cy' sk lc la) :
    wY_follow_151 post J40 J55 x1 x2 (nI c) (nI p) (nI h) x7 (nI N) cm ay tu tl sd op nu cy sk lc la := by
  have hN := P.1
  obtain ⟨eo, ho, -⟩ := P.2 p
  have hv : vp_in (nI p) 20 := vp_in_nI (by omega) (by omega)
  have cl : (nI p).toNatClampNeg = p := nI_clamp (by omega)
  have K177 : (o p = 11 ∨ o p = 12) → wY_follow_177 post J40 J55 x1 x2 (nI c) (nI p) (nI h) x7 (nI N) cm ay tu tl sd op nu cy sk lc la := by
    intro hj
    unfold wY_follow_177
    rw [cl]
    refine ⟨hv, sc_yreach hN H hh (fun r cy' H' hr => ?_)⟩
    have H2 := sc_HS_c (B := fun q g => A q g ∨ (q < N ∧ ((o p = 11 ∨ o p = 12) ∧ nu p = nI q) ∧ g = h)) H' (fun q g _ _ => by grind)
    rcases hr with ⟨rfl, hq⟩ | ⟨rfl, q, hq, e, na⟩
    · refine br_t rfl (sc_y198 (fun a b _ => k 0 cy' H2 (Or.inl ⟨rfl, a, b, fun q hl _ e => hq q hl e⟩)) (fun w => k 1 cy' H2 (Or.inr ⟨rfl, by grind⟩)))
    · exact br_f (by decide) (sc_y198 (fun _ _ z => absurd z (by decide)) (fun w => k 1 cy' H2 (Or.inr ⟨rfl, Or.inr (Or.inr ⟨q, hq, hj, e, na⟩)⟩)))
  unfold wY_follow_151
  rw [cl, eo]
  refine ⟨hv, pk_eq (o p) 11 (fun z => K177 (Or.inl z)) (fun z => ⟨hv, pk_eq (o p) 12 (fun z => K177 (Or.inr z)) (fun y => ?_)⟩)⟩
  have H2 := sc_HS_c (B := fun q g => A q g ∨ (q < N ∧ ((o p = 11 ∨ o p = 12) ∧ nu p = nI q) ∧ g = h)) H (fun q g _ _ => by grind)
  exact sc_y198 (fun a b _ => k 0 cy H2 (Or.inl ⟨rfl, a, b, fun q hl w => absurd w (by omega)⟩)) (fun w => k 1 cy H2 (Or.inr ⟨rfl, by grind⟩))
theorem sc_y55s {post : SY → Prop} {J40 : Int32 → Int32 → Int32 → Int32 → Int32 → Int32 → Int32 → Int32 → (Nat → Int32) → (Nat → Int32) → (Nat → Int32) → (Nat → Int32) → (Nat → Int32) → (Nat → Int32) → Prop} {x1 x2 : Int32} {n c p h : Nat}
    (P : sc_PO N op o nu) (hp : p < N) (hh : h < 7) (hc : c = p * 7 + h) (hx : x1 = 0 ∨ x1 = 1) (H : sc_HS cy A)
    (k : ∀ (x1' : Int32) (cy' : Nat → Int32), sc_HS cy' (fun q g => A q g ∨ (A p h ∧ sc_st N o nu p h q ∧ g = sc_hn (o p) h)) → ((x1' = 0 ∧ x1 = 0 ∧ ∀ q, A p h → sc_st N o nu p h q → A q (sc_hn (o p) h)) ∨ (x1' = 1 ∧ (x1 = 1 ∨ ∃ q, A p h ∧ sc_st N o nu p h q ∧ ¬ A q (sc_hn (o p) h)))) → wY_follow_55 post J40 x2 n x1' (nI (c + 1)) (nI N) cm ay tu tl sd op nu cy' sk lc la) :
    wY_follow_55 post J40 x2 (n + 1) x1 (nI c) (nI N) cm ay tu tl sd op nu cy sk lc la := by
  have hN := P.1
  obtain ⟨eo, ho, -⟩ := P.2 p
  have hv : vp_in (nI p) 20 := vp_in_nI (by omega) (by omega)
  have cl : (nI p).toNatClampNeg = p := nI_clamp (by omega)
  have e1 : nI c / 7 = nI p := by rw [show (7 : Int32) = nI 7 from rfl, pk_div (by omega) (by decide) (by decide)]; exact congrArg nI (by omega)
  have e2 : nI c - nI c / 7 * 7 = nI h := by rw [show (7 : Int32) = nI 7 from rfl, pk_rem (by omega) (by decide) (by decide)]; exact congrArg nI (by omega)
  have e7 : (7 : Int32) * nI N = nI (7 * N) := pk_mul 7 N
  have no : ¬ (A p h ∧ sc_can (o p) h) → wY_follow_55 post J40 x2 n x1 (nI (c + 1)) (nI N) cm ay tu tl sd op nu cy sk lc la := by
    intro z
    refine k x1 cy (sc_HS_c H fun q g _ _ => ⟨Or.inl, fun w => w.elim id (fun v => absurd ⟨v.1, v.2.1.1⟩ z)⟩) ?_
    rcases hx with e | e
    · exact Or.inl ⟨e, e, fun q a s => absurd ⟨a, s.1⟩ z⟩
    · exact Or.inr ⟨e, Or.inl e⟩
  refine br_f (by rw [e7]; exact nI_ge (by omega) (by omega)) ⟨by decide, nm_r e1 ⟨by decide, nm_r e2 ⟨hv, ?_⟩⟩⟩
  rw [cl, eo]
  by_cases ha : A p h
  · refine br_t ((sc_HS_b1 H (by omega) hh).mpr ha) (sc_ycan P hp hh (fun hcan => br_f (by decide) ⟨hv, sc_yrise ho (nm_r (sc_grh hcan.1) ⟨hv, ?_⟩)⟩) (fun hcan => br_t rfl (nm_r (nI_1 c) (no fun w => hcan w.2))))
    have h7 := sc_hn_7 hcan hh
    have sw : ∀ q, (q < N ∧ (((o p = 11 ∨ o p = 12) ∧ nu p = nI q) ∨ (o p < 12 ∧ q = p + 1))) ↔ sc_st N o nu p h q := fun q => by
      unfold sc_st; grind
    refine pk_le 12 (o p) (fun z => ?_) (fun z => ?_)
    · refine sc_y151 (x7 := 0) P hp h7 H (fun x1' cy' H' hr => k x1' cy' (sc_HS_c H' fun q g _ _ => ?_) ?_)
      · rw [← sw q]; grind
      · rcases hr with ⟨r1, r2, -, r4⟩ | ⟨r1, r2⟩
        · refine Or.inl ⟨r1, r2, fun q _ s => ?_⟩
          rw [← sw q] at s
          exact r4 q s.1 (by omega) (by grind)
        · refine Or.inr ⟨r1, ?_⟩
          rcases r2 with r2 | r2 | ⟨q, q1, q2, q3, q4⟩
          · exact Or.inl (hx.elim (fun w => absurd w r2) id)
          · exact absurd rfl r2
          · exact Or.inr ⟨q, ha, (sw q).mp ⟨q1, Or.inl ⟨q2, q3⟩⟩, q4⟩
    · have pe : ∀ q, q < 20 → (nI p + 1 = nI q ↔ q = p + 1) := fun q hq => by rw [nI_1, nI_eq (by omega) (by omega)]; exact ⟨Eq.symm, Eq.symm⟩
      refine sc_yreach hN H h7 (fun r cy1 H1 hr => ?_)
      have K151 : ∀ x7 : Int32, ((x7 = 0 ∧ ∀ q, q < N → nI p + 1 = nI q → A q (sc_hn (o p) h)) ∨ (x7 = 1 ∧ ∃ q, q < N ∧ nI p + 1 = nI q ∧ ¬ A q (sc_hn (o p) h))) → wY_follow_151 post J40 (wY_follow_55 post J40 x2 n) x1 x2 (nI c) (nI p) (nI (sc_hn (o p) h)) x7 (nI N) cm ay tu tl sd op nu cy1 sk lc la := by
        intro x7 hr
        refine sc_y151 P hp h7 H1 (fun x1' cy' H' hr' => k x1' cy' (sc_HS_c H' fun q g hq _ => ?_) ?_)
        · rw [← sw q, pe q hq]; grind
        · rcases hr' with ⟨r1, r2, r3, r4⟩ | ⟨r1, r2⟩
          · rcases hr with ⟨s1, s2⟩ | ⟨s1, -⟩
            · refine Or.inl ⟨r1, r2, fun q _ s => ?_⟩
              rw [← sw q] at s
              rcases s.2 with s3 | s3
              · rcases r4 q s.1 s3.1 s3.2 with w | w
                · exact w
                · exact s2 q w.1 w.2.1
              · exact s2 q s.1 ((pe q (by omega)).mpr s3.2)
            · rw [s1] at r3; exact absurd r3 (by decide)
          · refine Or.inr ⟨r1, ?_⟩
            rcases r2 with r2 | r2 | ⟨q, q1, q2, q3, q4⟩
            · exact Or.inl (hx.elim (fun w => absurd w r2) id)
            · rcases hr with ⟨s1, -⟩ | ⟨-, q, q1, q2, q3⟩
              · exact absurd s1 r2
              · exact Or.inr ⟨q, ha, (sw q).mp ⟨q1, Or.inr ⟨z, (pe q (by omega)).mp q2⟩⟩, q3⟩
            · exact Or.inr ⟨q, ha, (sw q).mp ⟨q1, Or.inl ⟨q2, q3⟩⟩, fun w => q4 (Or.inl w)⟩
      rcases hr with ⟨rfl, hr⟩ | ⟨rfl, hr⟩
      · exact br_t rfl (K151 0 (Or.inl ⟨rfl, hr⟩))
      · exact br_f (by decide) (K151 1 (Or.inr ⟨rfl, hr⟩))
  · exact br_f (fun e => ha ((sc_HS_b1 H (by omega) hh).mp e)) (nm_r (nI_1 c) (no fun w => ha w.1))
end
end
section
/-! Y: follow's loops, faults, fits -/
def sc_f1 (A : Nat → Nat → Prop) (i : Nat) : Prop := A (i / 7) (i % 7)
def sc_sub (A B : Nat → Nat → Prop) : Prop := ∀ p h, p < 20 → h < 7 → A p h → B p h
def sc_clo (N : Nat) (o : Nat → Nat) (nu : Nat → Int32) (A : Nat → Nat → Prop) (c : Nat) : Prop := ∀ p h q, p < N → h < 7 → p * 7 + h < c → A p h → sc_st N o nu p h q → A q (sc_hn (o p) h)
def sc_FI (N : Nat) (o : Nat → Nat) (nu : Nat → Int32) (A0 A : Nat → Nat → Prop) (c : Nat) (x1 : Int32) : Prop :=
  sc_sub A0 A ∧ sc_sub A (sc_R N o nu) ∧ ((x1 = 0 ∧ sc_sub A A0 ∧ sc_clo N o nu A c) ∨ (x1 = 1 ∧ sc_cn (sc_f1 A0) 140 < sc_cn (sc_f1 A) 140))
section
variable {N : Nat} {o : Nat → Nat} {nu : Nat → Int32} {A0 A : Nat → Nat → Prop}
theorem sc_FI_s {p h c : Nat} {x1 x1' : Int32} (hN : N ≤ 20) (F : sc_FI N o nu A0 A c x1) (hp : p < N) (hh : h < 7) (hc : c = p * 7 + h)
    (hr : (x1' = 0 ∧ x1 = 0 ∧ ∀ q, A p h → sc_st N o nu p h q → A q (sc_hn (o p) h)) ∨ (x1' = 1 ∧ (x1 = 1 ∨ ∃ q, A p h ∧ sc_st N o nu p h q ∧ ¬ A q (sc_hn (o p) h)))) :
    sc_FI N o nu A0 (fun q g => A q g ∨ (A p h ∧ sc_st N o nu p h q ∧ g = sc_hn (o p) h)) (c + 1) x1' := by
  obtain ⟨f1, f2, f3⟩ := F
  refine ⟨fun q g hq hg z => Or.inl (f1 q g hq hg z), ?_, ?_⟩
  · intro q g hq hg z
    rcases z with z | ⟨z1, z2, rfl⟩
    · exact f2 q g hq hg z
    · exact sc_R_s (f2 p h (by omega) hh z1) z2
  · have mono : sc_cn (sc_f1 A) 140 ≤ sc_cn (sc_f1 (fun q g => A q g ∨ (A p h ∧ sc_st N o nu p h q ∧ g = sc_hn (o p) h))) 140 := sc_cn_mono fun k _ z => Or.inl z
    rcases hr with ⟨r1, r2, r3⟩ | ⟨r1, r2⟩
    · rcases f3 with ⟨-, g2, g3⟩ | ⟨g1, -⟩
      · refine Or.inl ⟨r1, ?_, ?_⟩
        · intro q g hq hg z
          rcases z with z | ⟨z1, z2, rfl⟩
          · exact g2 q g hq hg z
          · exact g2 q _ hq hg (r3 q z1 z2)
        · intro p' h' q hp' hh' hl z s
          have za : A p' h' := by
            rcases z with z | ⟨z1, z2, rfl⟩
            · exact z
            · exact r3 p' z1 z2
          by_cases e : p' * 7 + h' = c
          · have e1 : p' = p := by omega
            have e2 : h' = h := by omega
            subst e1; subst e2
            exact Or.inl (r3 q za s)
          · exact Or.inl (g3 p' h' q hp' hh' (by omega) za s)
      · rw [g1] at r2; exact absurd r2 (by decide)
    · refine Or.inr ⟨r1, ?_⟩
      rcases r2 with r2 | ⟨q, q1, q2, q3⟩
      · rcases f3 with ⟨g1, -, -⟩ | ⟨-, g2⟩
        · rw [g1] at r2; exact absurd r2 (by decide)
        · omega
      · have h7 := sc_hn_7 q2.1 hh
        have ql := q2.2.1
        have e1 : (q * 7 + sc_hn (o p) h) / 7 = q := by omega
        have e2 : (q * 7 + sc_hn (o p) h) % 7 = sc_hn (o p) h := by omega
        refine sc_cn_lt (a := q * 7 + sc_hn (o p) h) ?_ ?_ (fun k hk z => Or.inl (f1 _ _ (by omega) (by omega) z)) (by omega)
        · unfold sc_f1
          rw [e1, e2]
          exact fun w => q3 (f1 q _ (by omega) h7 w)
        · unfold sc_f1
          rw [e1, e2]
          exact Or.inr ⟨q1, q2, rfl⟩
end
section
variable {sz cm ay tu tl sd : Int32} {op nu cy sk lc la : Nat → Int32}
variable {N : Nat} {o : Nat → Nat} {A : Nat → Nat → Prop}
theorem sc_y55 {post : SY → Prop} {J40 : Int32 → Int32 → Int32 → Int32 → Int32 → Int32 → Int32 → Int32 → (Nat → Int32) → (Nat → Int32) → (Nat → Int32) → (Nat → Int32) → (Nat → Int32) → (Nat → Int32) → Prop} {r : Nat} {A0 : Nat → Nat → Prop} (P : sc_PO N op o nu)
    (k : ∀ (x1' : Int32) (A' : Nat → Nat → Prop) (cy' : Nat → Int32), sc_HS cy' A' → sc_FI N o nu A0 A' (7 * N) x1' → J40 x1' (nI (r + 1)) (nI N) cm ay tu tl sd op nu cy' sk lc la) :
    ∀ d c (x1 : Int32) (A : Nat → Nat → Prop) (cy : Nat → Int32), c + d = 7 * N → sc_HS cy A → sc_FI N o nu A0 A c x1 → wY_follow_55 post J40 (nI r) (d + 1) x1 (nI c) (nI N) cm ay tu tl sd op nu cy sk lc la := by
  have hN := P.1
  have e7 : (7 : Int32) * nI N = nI (7 * N) := pk_mul 7 N
  intro d
  induction d with
  | zero =>
    intro c x1 A cy hc H F
    have e : c = 7 * N := by omega
    subst e
    exact br_t (by rw [e7]; exact nI_le (Nat.le_refl _) (by omega)) (nm_r (nI_1 r) (k x1 A cy H F))
  | succ d ih =>
    intro c x1 A cy hc H F
    refine sc_y55s (p := c / 7) (h := c % 7) P (by omega) (by omega) (by omega) (F.2.2.elim (fun z => Or.inl z.1) (fun z => Or.inr z.1)) H (fun x1' cy' H' hr => ih (c + 1) x1' _ cy' (by omega) H' (sc_FI_s hN F (by omega) (by omega) (by omega) hr))
theorem sc_y40 {post : SY → Prop} (P : sc_PO N op o nu) (k : ∀ cy' : Nat → Int32, sc_HS cy' (sc_R N o nu) → post (nI N, cm, ay, tu, tl, sd, op, nu, cy', sk, lc, la)) :
    ∀ d r (x1 : Int32) (A : Nat → Nat → Prop) (cy : Nat → Int32), r + d = 141 → sc_HS cy A → (0 < N → A 0 0) → sc_sub A (sc_R N o nu) → ((x1 = 0 ∧ sc_clo N o nu A (7 * N)) ∨ (x1 = 1 ∧ r ≤ sc_cn (sc_f1 A) 140)) → wY_follow_40 post (d + 1) x1 (nI r) (nI N) cm ay tu tl sd op nu cy sk lc la := by
  have hN := P.1
  have fin : ∀ (A : Nat → Nat → Prop) (cy : Nat → Int32), sc_HS cy A → (0 < N → A 0 0) → sc_sub A (sc_R N o nu) → sc_clo N o nu A (7 * N) → post (nI N, cm, ay, tu, tl, sd, op, nu, cy, sk, lc, la) := fun A cy H h0 hs hc =>
    k cy (sc_HS_c H fun p h hp hh => ⟨hs p h hp hh, fun z => sc_R_min A h0 (fun p h q h1 h2 ha s => hc p h q h1 h2 (by omega) ha s) z⟩)
  intro d
  induction d with
  | zero =>
    intro r x1 A cy hr H h0 hs hx
    refine br_t (nI_le (a := 141) (by omega) (by omega)) ?_
    rcases hx with ⟨-, hx⟩ | ⟨-, hx⟩
    · exact fin A cy H h0 hs hx
    · have := sc_cn_le (sc_f1 A) 140
      omega
  | succ d ih =>
    intro r x1 A cy hr H h0 hs hx
    refine br_f (nI_ge (b := 141) (by omega) (by omega)) ?_
    rcases hx with ⟨rfl, hx⟩ | ⟨rfl, hx⟩
    · exact br_t rfl (fin A cy H h0 hs hx)
    · refine br_f (by decide) ⟨7 * N + 1, sc_y55 (A0 := A) P (fun x1' A' cy' H' F => ?_) (7 * N) 0 0 A cy (by omega) H ⟨fun _ _ _ _ z => z, hs, Or.inl ⟨rfl, fun _ _ _ _ z => z, fun p h q _ _ hl => by omega⟩⟩⟩
      obtain ⟨f1, f2, f3⟩ := F
      refine ih (r + 1) x1' A' cy' (by omega) H' (fun z => f1 0 0 (by omega) (by omega) (h0 z)) f2 ?_
      rcases f3 with ⟨g1, -, g3⟩ | ⟨g1, g2⟩
      · exact Or.inl ⟨g1, g3⟩
      · exact Or.inr ⟨g1, by omega⟩
theorem sc_yfollow {post : SY → Prop} (P : sc_PO N op o nu) (k : ∀ cy' : Nat → Int32, sc_HS cy' (sc_R N o nu) → post (nI N, cm, ay, tu, tl, sd, op, nu, cy', sk, lc, la)) : wpY_follow post (nI N, cm, ay, tu, tl, sd, op, nu, cy, sk, lc, la) := by
  have hN := P.1
  have key : ∀ d i (cy : Nat → Int32), i + d = 20 → (∀ j, j < i → cy j = if j = 0 ∧ 0 < N then 1 else 0) → wY_follow_2 post (nI N) cm ay tu tl sd (d + 1) (nI i) op nu cy sk lc la := by
    intro d
    induction d with
    | zero =>
      intro i cy hi hz
      have H : sc_HS cy (fun p h => p = 0 ∧ h = 0 ∧ 0 < N) := by
        intro p hp
        by_cases z : p = 0 ∧ 0 < N
        · refine ⟨1, by decide, by rw [hz p (by omega), if_pos z]; rfl, fun h hh => ?_⟩
          rw [Nat.testBit_one_eq_true_iff_self_eq_zero]
          exact ⟨fun w => ⟨z.1, w, z.2⟩, fun w => w.2.1⟩
        · refine ⟨0, by decide, by rw [hz p (by omega), if_neg z]; rfl, fun h hh => ?_⟩
          rw [Nat.zero_testBit]
          exact ⟨fun w => absurd w (by decide), fun w => absurd ⟨w.1, w.2.2⟩ z⟩
      refine br_t (nI_le (a := 20) (by omega) (by omega)) ⟨142, sc_y40 P k 141 0 1 _ cy rfl H (fun z => ⟨rfl, rfl, z⟩) (fun p h _ _ z => ?_) (Or.inr ⟨rfl, Nat.zero_le _⟩)⟩
      obtain ⟨rfl, rfl, z⟩ := z
      exact sc_R_0 z
    | succ d ih =>
      intro i cy hi hz
      have st : ∀ v : Int32, v = (if i = 0 ∧ 0 < N then 1 else 0) → wY_follow_2 post (nI N) cm ay tu tl sd (d + 1) (nI (i + 1)) op nu (upd cy i v) sk lc la := by
        intro v hv
        refine ih (i + 1) _ (by omega) (lt_s (fun j hj => ?_) ?_)
        · rw [pk_un (by omega)]; exact hz j hj
        · rw [pk_us]; exact hv
      have hv : vp_in (nI i) 20 := vp_in_nI (by omega) (by omega)
      refine br_f (nI_ge (b := 20) (by omega) (by omega)) ?_
      rw [nI_clamp (by omega)]
      refine pk_eq i 0 (fun z => pk_le N 0 (fun y => ⟨hv, nm_e (nm_r (nI_1 i) (st 0 (by rw [if_neg (by omega)])))⟩) (fun y => ⟨hv, nm_e (nm_r (nI_1 i) (st 1 (by rw [if_pos (by omega)])))⟩)) (fun z => ⟨hv, nm_e (nm_r (nI_1 i) (st 0 (by rw [if_neg (by omega)])))⟩)
  exact ⟨21, key 20 0 cy rfl (fun j hj => by omega)⟩
theorem sc_y105 {post : Int32 → SY → Prop} {J11 : Int32 → Int32 → Int32 → Prop} {x3 z0 : Int32} {p h s : Nat} (P : sc_PO N op o nu) (hp : p < N) (hh : h < 7) (hs : s < 8) (hz : z0 = 0 ↔ ¬ sc_far N o nu p)
    (k : J11 (nI (s ||| sc_ct N o nu p h)) x3 (nI (h + 1))) : wY_faults_105 post J11 (nI p) (nI s) x3 (nI h) z0 (nI N) cm ay tu tl sd op nu cy sk lc la := by
  have hN := P.1
  obtain ⟨eo, ho, -⟩ := P.2 p
  have h2 := sc_nd_le (o p)
  have go : ∀ c, c < 8 → sc_ct N o nu p h = c → J11 (nI s ||| nI c) x3 (nI (h + 1)) := fun c hc e => by
    rw [sc_nor s (by omega) c (by omega), ← e]; exact k
  unfold wY_faults_105
  rw [nI_clamp (by omega), eo]
  refine ⟨vp_in_nI (by omega) (by omega), sc_yneed ho (pk_le (sc_nd (o p)) h (fun hn => sc_ycan P hp hh (fun hc => br_f (by decide) ?_) (fun hc => br_t rfl (nm_e (nm_r (nI_1 h) (go 2 (by decide) ?_))))) (fun hn => nm_e (nm_r (nI_1 h) (go 1 (by decide) ?_))))⟩
  · by_cases z : z0 = 0
    · refine br_t z (nm_e (nm_r (nI_1 h) (go 0 (by decide) ?_)))
      unfold sc_ct
      rw [if_neg (by omega), if_neg (fun w => w hc), if_neg (hz.mp z)]
    · refine br_f z (nm_e (nm_r (nI_1 h) (go 4 (by decide) ?_)))
      unfold sc_ct
      rw [if_neg (by omega), if_neg (fun w => w hc), if_pos (Classical.byContradiction fun w => z (hz.mpr w))]
  · unfold sc_ct
    rw [if_neg (by omega), if_pos hc]
  · unfold sc_ct
    rw [if_pos hn]
theorem sc_y11 {post : Int32 → SY → Prop} {p : Nat} (P : sc_PO N op o nu) (hp : p < N) (H : sc_HS cy (sc_R N o nu)) (k : post (nI (sc_fv N o nu p)) (nI N, cm, ay, tu, tl, sd, op, nu, cy, sk, lc, la)) :
    ∀ d h, h + d = 7 → wY_faults_11 post (nI p) (nI N) cm ay tu tl sd op nu cy sk lc la (d + 1) (nI (sc_os (fun h => sc_if (sc_R N o nu p h) (sc_ct N o nu p h)) h)) (nI (sc_cn (sc_R N o nu p) h)) (nI h) := by
  have hN := P.1
  obtain ⟨eo, ho, -⟩ := P.2 p
  have hv : vp_in (nI p) 20 := vp_in_nI (by omega) (by omega)
  have cl : (nI p).toNatClampNeg = p := nI_clamp (by omega)
  have hin : sc_in N (nI p) := (sc_in_nI hN (by omega)).mpr hp
  have ol : ∀ h, sc_os (fun h => sc_if (sc_R N o nu p h) (sc_ct N o nu p h)) h < 8 := sc_os_lt (fun k => by
    rcases Classical.em (sc_R N o nu p k) with z | z
    · rw [sc_if_t z]; exact sc_ct_lt ..
    · rw [sc_if_f z]; decide)
  intro d
  induction d with
  | zero =>
    intro h hd
    have e : h = 7 := by omega
    subst e
    have cnl := sc_cn_le (sc_R N o nu p) 7
    refine br_t (nI_le (a := 7) (by omega) (by omega)) (pk_le (sc_cn (sc_R N o nu p) 7) 1 (fun z => ?_) (fun z => ?_))
    · unfold sc_fv at k
      rw [if_pos z] at k
      exact k
    · unfold sc_fv at k
      rw [if_neg (by omega)] at k
      rw [show (8 : Int32) = nI 8 from rfl, sc_nor _ (by have := ol 7; omega) 8 (by decide)]
      exact k
  | succ d ih =>
    intro h hd
    refine br_f (nI_ge (b := 7) (by omega) (by omega)) (sc_yinside (fun _ => br_f (by decide) ⟨hv, ?_⟩) (fun w => absurd hin w))
    rw [cl, eo]
    by_cases hr : sc_R N o nu p h
    · have e1 : sc_cn (sc_R N o nu p) (h + 1) = sc_cn (sc_R N o nu p) h + 1 := by simp only [sc_cn]; rw [sc_b_t hr]
      have K := ih (h + 1) (by omega)
      rw [e1] at K
      have e2 : sc_os (fun h => sc_if (sc_R N o nu p h) (sc_ct N o nu p h)) (h + 1) = sc_os (fun h => sc_if (sc_R N o nu p h) (sc_ct N o nu p h)) h ||| sc_ct N o nu p h := by simp only [sc_os]; rw [sc_if_t hr]
      rw [e2] at K
      have pe : sc_in N (nI p + 1) ↔ p + 1 < N := by rw [nI_1, sc_in_nI hN (by omega)]
      refine br_t ((sc_HS_b1 H (by omega) (by omega)).mpr hr) (nm_r (nI_1 _) ⟨hv, ?_⟩)
      have K100 : sc_far N o nu p → wY_faults_100 post (wY_faults_11 post (nI p) (nI N) cm ay tu tl sd op nu cy sk lc la (d + 1)) (nI p) (nI (sc_os (fun h => sc_if (sc_R N o nu p h) (sc_ct N o nu p h)) h)) (nI (sc_cn (sc_R N o nu p) h + 1)) (nI h) (nI N) cm ay tu tl sd op nu cy sk lc la := fun z =>
        sc_y105 P hp (by omega) (ol h) ⟨fun w => absurd w (by decide), fun w => absurd z w⟩ K
      have K104 : ¬ sc_far N o nu p → wY_faults_104 post (wY_faults_11 post (nI p) (nI N) cm ay tu tl sd op nu cy sk lc la (d + 1)) (nI p) (nI (sc_os (fun h => sc_if (sc_R N o nu p h) (sc_ct N o nu p h)) h)) (nI (sc_cn (sc_R N o nu p) h + 1)) (nI h) (nI N) cm ay tu tl sd op nu cy sk lc la := fun z =>
        sc_y105 P hp (by omega) (ol h) ⟨fun _ => z, fun _ => rfl⟩ K
      have K65 : ¬ (o p < 12 ∧ ¬ p + 1 < N) → wY_faults_65 post (wY_faults_11 post (nI p) (nI N) cm ay tu tl sd op nu cy sk lc la (d + 1)) (nI p) (nI (sc_os (fun h => sc_if (sc_R N o nu p h) (sc_ct N o nu p h)) h)) (nI (sc_cn (sc_R N o nu p) h + 1)) (nI h) (nI N) cm ay tu tl sd op nu cy sk lc la := by
        intro z
        have K87 : (o p = 11 ∨ o p = 12) → wY_faults_87 post (wY_faults_11 post (nI p) (nI N) cm ay tu tl sd op nu cy sk lc la (d + 1)) (nI p) (nI (sc_os (fun h => sc_if (sc_R N o nu p h) (sc_ct N o nu p h)) h)) (nI (sc_cn (sc_R N o nu p) h + 1)) (nI h) (nI N) cm ay tu tl sd op nu cy sk lc la := by
          intro hj
          unfold wY_faults_87
          rw [cl]
          exact ⟨hv, sc_yinside (fun w => br_f (by decide) (K104 fun v => v.elim (fun u => u.2 w) z)) (fun w => br_t rfl (K100 (Or.inl ⟨hj, w⟩)))⟩
        unfold wY_faults_65
        rw [cl, eo]
        exact ⟨hv, pk_eq (o p) 11 (fun y => K87 (Or.inl y)) (fun y => ⟨hv, pk_eq (o p) 12 (fun y => K87 (Or.inr y)) (fun y' => K104 fun v => v.elim (fun u => by omega) z)⟩)⟩
      refine pk_le 12 (o p) (fun z => K65 (by omega)) (fun z => sc_yinside (fun w => br_f (by decide) (K65 fun v => v.2 (pe.mp w))) (fun w => br_t rfl (K100 (Or.inr ⟨z, fun v => w (pe.mpr v)⟩))))
    · have e1 : sc_cn (sc_R N o nu p) (h + 1) = sc_cn (sc_R N o nu p) h := by simp only [sc_cn]; rw [sc_b_f hr]; rfl
      have K := ih (h + 1) (by omega)
      rw [e1] at K
      have e2 : sc_os (fun h => sc_if (sc_R N o nu p h) (sc_ct N o nu p h)) (h + 1) = sc_os (fun h => sc_if (sc_R N o nu p h) (sc_ct N o nu p h)) h := by simp only [sc_os]; rw [sc_if_f hr, Nat.or_zero]
      rw [e2] at K
      exact br_f (fun e => hr ((sc_HS_b1 H (by omega) (by omega)).mp e)) (nm_r (nI_1 h) K)
theorem sc_yfaults {post : Int32 → SY → Prop} {x : Int32} (P : sc_PO N op o nu) (k1 : ∀ p, p < N → x = nI p → ∀ cy' : Nat → Int32, post (nI (sc_fv N o nu p)) (nI N, cm, ay, tu, tl, sd, op, nu, cy', sk, lc, la)) (k0 : ¬ sc_in N x → ∀ cy' : Nat → Int32, post 0 (nI N, cm, ay, tu, tl, sd, op, nu, cy', sk, lc, la)) : wpY_faults post (nI N, cm, ay, tu, tl, sd, op, nu, cy, sk, lc, la) x := by
  unfold wpY_faults
  dsimp only
  refine sc_yfollow P (fun cy' H => ?_)
  dsimp only
  by_cases hin : sc_in N x
  · obtain ⟨p, hp, rfl⟩ := (sc_in_iff P.1).mp hin
    exact ⟨8, sc_y11 P hp H (k1 p hp rfl cy') 7 0 rfl⟩
  · exact ⟨1, br_f (by decide) (sc_yinside (fun w => absurd w hin) (fun w => br_t rfl (br_t (by decide) (k0 hin cy'))))⟩
theorem sc_yfits {post : Int32 → SY → Prop} (P : sc_PO N op o nu) (k1 : sc_Fit N o nu → ∀ cy' : Nat → Int32, post 1 (nI N, cm, ay, tu, tl, sd, op, nu, cy', sk, lc, la)) (k0 : ¬ sc_Fit N o nu → ∀ cy' : Nat → Int32, post 0 (nI N, cm, ay, tu, tl, sd, op, nu, cy', sk, lc, la)) : wpY_fits post (nI N, cm, ay, tu, tl, sd, op, nu, cy, sk, lc, la) := by
  have hN := P.1
  have key : ∀ d i s (cy : Nat → Int32), i + d = N → s < 16 → (s = 0 ↔ ∀ p, p < i → sc_fv N o nu p = 0) → wY_fits_4 post (d + 1) (nI s) (nI i) (nI N) cm ay tu tl sd op nu cy sk lc la := by
    intro d
    induction d with
    | zero =>
      intro i s cy hi hs hz
      have e : i = N := by omega
      subst e
      refine br_t (nI_le (Nat.le_refl _) (by omega)) (pk_le i 0 (fun z => k0 (fun w => by have := w.1; omega) cy) (fun z => pk_eq s 0 (fun y => k1 ⟨z, hz.mp y⟩ cy) (fun y => k0 (fun w => y (hz.mpr w.2)) cy)))
    | succ d ih =>
      intro i s cy hi hs hz
      refine br_f (nI_ge (by omega) (by omega)) (sc_yfaults P (fun p hp e cy' => ?_) (fun w => absurd ((sc_in_nI hN (by omega)).mpr (show i < N by omega)) w))
      have e' : i = p := (nI_eq (by omega) (by omega)).mp e
      subst e'
      have fl := sc_fv_lt (N := N) (o := o) (nu := nu) i
      refine nm_r (e' := nI (s ||| sc_fv N o nu i)) (sc_nor s hs _ fl) (nm_r (nI_1 i) (ih (i + 1) _ cy' (by omega) (sc_nor_lt s hs _ fl) ?_))
      rw [Nat.or_eq_zero_iff, hz]
      exact ⟨fun w => lt_s w.1 w.2, fun w => ⟨fun p hp => w p (by omega), w i (by omega)⟩⟩
  exact ⟨N + 1, key N 0 0 cy (by omega) (by decide) ⟨fun _ p hp => by omega, fun _ => rfl⟩⟩
theorem sc_yheights {post : Int32 → SY → Prop} {x : Int32} (P : sc_PO N op o nu) (k1 : ∀ p, p < N → x = nI p → ∀ cy' : Nat → Int32, sc_HS cy' (sc_R N o nu) → post (cy' p) (nI N, cm, ay, tu, tl, sd, op, nu, cy', sk, lc, la)) (k0 : ¬ sc_in N x → ∀ cy' : Nat → Int32, post 0 (nI N, cm, ay, tu, tl, sd, op, nu, cy', sk, lc, la)) : wpY_heights post (nI N, cm, ay, tu, tl, sd, op, nu, cy, sk, lc, la) x := by
  have hN := P.1
  unfold wpY_heights
  dsimp only
  refine sc_yfollow P (fun cy' H => ?_)
  dsimp only
  refine sc_yinside (fun hin => ?_) (fun hout => br_t rfl (k0 hout cy'))
  obtain ⟨p, hp, rfl⟩ := (sc_in_iff hN).mp hin
  refine br_f (by decide) ⟨vp_in_nI (by omega) (by omega), ?_⟩
  rw [nI_clamp (by omega)]
  exact k1 p hp rfl cy' H
end
/-! X: fits, faults, heights, heightAt -/
section
variable {sz jd cd cs kn sp st ax oc : Int32} {op nu hs nt wt CO CT LR LV RR RV ld cf ce be KR KV rg la : Nat → Int32}
variable {N : Nat} {o : Nat → Nat}
theorem sc_xfits {post : Int32 → SX → Prop} (P : sc_PO N op o nu) (hj : jd = 0 ∨ (jd = 1 ∧ sc_JD N o nu hs nt))
    (k1 : sc_Fit N o nu → ∀ hs' nt' wt' : Nat → Int32, sc_JD N o nu hs' nt' → post 1 (nI N, 1, cd, cs, kn, sp, st, ax, oc, op, nu, hs', nt', wt', CO, CT, LR, LV, RR, RV, ld, cf, ce, be, KR, KV, rg, la))
    (k0 : ¬ sc_Fit N o nu → ∀ (jd' : Int32) (hs' nt' wt' : Nat → Int32), (jd' = 0 ∨ (jd' = 1 ∧ sc_JD N o nu hs' nt')) → post 0 (nI N, jd', cd, cs, kn, sp, st, ax, oc, op, nu, hs', nt', wt', CO, CT, LR, LV, RR, RV, ld, cf, ce, be, KR, KV, rg, la)) : wpX_fits post (nI N, jd, cd, cs, kn, sp, st, ax, oc, op, nu, hs, nt, wt, CO, CT, LR, LV, RR, RV, ld, cf, ce, be, KR, KV, rg, la) := by
  have hN := P.1
  refine pk_eq N 0 (fun z => k0 (fun w => by have := w.1; omega) jd hs nt wt hj) (fun z => sc_xjudge P hj (fun hs' nt' wt' D => ?_))
  dsimp only
  have key : ∀ d i, i + d = N → (∀ p, p < i → sc_fv N o nu p = 0) → wX_fits_15 post (nI N) 1 cd cs kn sp st ax oc op nu hs' nt' wt' CO CT LR LV RR RV ld cf ce be KR KV rg la (d + 1) (nI i) := by
    intro d
    induction d with
    | zero => intro i hi hz; exact br_t (nI_le (by omega) (by omega)) (k1 ⟨by omega, fun p hp => hz p (by omega)⟩ hs' nt' wt' D)
    | succ d ih =>
      intro i hi hz
      have fl := sc_fv_lt (N := N) (o := o) (nu := nu) i
      refine br_f (nI_ge (by omega) (by omega)) ⟨vp_in_nI (by omega) (by omega), ?_⟩
      rw [nI_clamp (by omega), D.2 i (by omega)]
      exact pk_eq (sc_fv N o nu i) 0 (fun y => nm_r (nI_1 i) (ih (i + 1) (by omega) (lt_s hz y))) (fun y => k0 (fun w => y (w.2 i (by omega))) 1 hs' nt' wt' (Or.inr ⟨rfl, D⟩))
  exact ⟨N + 1, key N 0 (by omega) (fun p hp => by omega)⟩
theorem sc_xheightAt {post : Int32 → Prop} {p h : Nat} (H : sc_HS hs (sc_R N o nu)) (F : sc_Fit N o nu) (hN : N ≤ 20) (hr : sc_R N o nu p h) (k : post (nI h)) : wpX_heightAt post (sz, jd, cd, cs, kn, sp, st, ax, oc, op, nu, hs, nt, wt, CO, CT, LR, LV, RR, RV, ld, cf, ce, be, KR, KV, rg, la) (nI p) := by
  obtain ⟨hp, hh⟩ := sc_R_lt hr
  have key : ∀ d i, i + d = 6 → i ≤ h → wX_heightAt_2 post (nI p) sz jd cd cs kn sp st ax oc op nu hs nt wt CO CT LR LV RR RV ld cf ce be KR KV rg la (d + 1) (nI i) := by
    intro d
    induction d with
    | zero =>
      intro i hi hl
      have e : h = 6 := by omega
      subst e
      exact br_t (nI_le (a := 6) (by omega) (by omega)) k
    | succ d ih =>
      intro i hi hl
      refine br_f (nI_ge (b := 6) (by omega) (by omega)) ⟨vp_in_nI (by omega) (by omega), ?_⟩
      rw [nI_clamp (by omega)]
      by_cases z : sc_R N o nu p i
      · have e := sc_fit_u F z hr
        subst e
        exact br_f (fun w => (sc_HS_b0 H (by omega) (by omega)).mp w z) k
      · exact br_t ((sc_HS_b0 H (by omega) (by omega)).mpr z) (nm_r (nI_1 i) (ih (i + 1) (by omega) (by
          rcases Nat.lt_or_ge i h with w | w
          · exact w
          · have e : i = h := by omega
            subst e
            exact absurd hr z)))
  exact ⟨7, key 6 0 rfl (Nat.zero_le _)⟩
end
end
section
/-! the stack machine and the register machine, as functions; known cells -/
abbrev sc_Ab : Type := (Nat → Int32) × (Nat → Int32) × (Nat → Int32) × Int32
abbrev sc_Rm : Type := (Nat → Int32) × (Nat → Int32) × Int32
abbrev sc_Ce : Type := Int32 × Int32 × Int32 × Int32 × Int32 × Int32
def sc_rs (k a b : Int32) : Int32 := if k = 3 then a + b else if k = 4 then a - b else if k = 5 then a * b else if b ≤ a then 0 else 1
def sc_shf : Nat → (Nat → Int32) → (Nat → Int32)
  | 0, f => f
  | k + 1, f => sc_shf k (upd f (k + 1) (f k))
def sc_sh (f : Nat → Int32) (x : Int32) : Nat → Int32 := upd (sc_shf 7 f) 0 x
def sc_one (k : Nat) (n : Int32) (h : Nat) (a : sc_Ab) : sc_Ab :=
  if k = 0 then (upd a.1 h n, a.2)
  else if k = 1 then (upd a.1 h (a.2.1 n.toNatClampNeg), a.2)
  else if k = 2 then (a.1, upd a.2.1 n.toNatClampNeg (a.1 (h - 1)), a.2.2)
  else if k ≤ 6 then (upd a.1 (h - 2) (sc_rs (nI k) (a.1 (h - 2)) (a.1 (h - 1))), a.2)
  else if k = 7 then (upd (upd a.1 (h - 1) (a.1 (h - 1))) h (a.1 (h - 1)), a.2)
  else if k = 8 then (upd (upd a.1 (h - 2) (a.1 (h - 1))) (h - 1) (a.1 (h - 2)), a.2)
  else if k = 10 then (a.1, a.2.1, sc_sh a.2.2.1 (a.1 (h - 1)), a.2.2.2 + 1)
  else a
def sc_hr (o : Nat → Nat) (p h : Nat) : Nat → Nat
  | 0 => h
  | j + 1 => sc_hn (o (p + j)) (sc_hr o p h j)
def sc_ar (o : Nat → Nat) (nu : Nat → Int32) (p h : Nat) : Nat → sc_Ab → sc_Ab
  | 0, a => a
  | j + 1, a => sc_one (o (p + j)) (nu (p + j)) (sc_hr o p h j) (sc_ar o nu p h j a)
def sc_vl (r v : Int32) (g : Nat → Int32) : Int32 := if r < 0 then v else g r.toNatClampNeg
def sc_x1 (c : sc_Ce) (s : sc_Rm) : sc_Rm :=
  if c.1 = 10 then (s.1, sc_sh s.2.1 (sc_vl c.2.2.1 c.2.2.2.1 s.1), s.2.2 + 1)
  else if c.1 = 14 then (upd s.1 c.2.1.toNatClampNeg (sc_vl c.2.2.1 c.2.2.2.1 s.1), s.2)
  else (upd s.1 c.2.1.toNatClampNeg (sc_rs c.1 (sc_vl c.2.2.1 c.2.2.2.1 s.1) (sc_vl c.2.2.2.2.1 c.2.2.2.2.2 s.1)), s.2)
def sc_xr (K : Nat → sc_Ce) (f : Nat) : Nat → sc_Rm → sc_Rm
  | 0, s => s
  | j + 1, s => sc_x1 (K (f + j)) (sc_xr K f j s)
def sc_kz (CO CT LR LV RR RV : Nat → Int32) : Nat → sc_Ce := fun i => (CO i, CT i, LR i, LV i, RR i, RV i)
def sc_uk (K : Nat → sc_Ce) (c : Nat) (v : sc_Ce) : Nat → sc_Ce := fun i => if i = c then v else K i
theorem sc_kz_u {CO CT LR LV RR RV : Nat → Int32} {c : Nat} {x1 x2 x3 x4 x5 x6 : Int32} : sc_kz (upd CO c x1) (upd CT c x2) (upd LR c x3) (upd LV c x4) (upd RR c x5) (upd RV c x6) = sc_uk (sc_kz CO CT LR LV RR RV) c (x1, x2, x3, x4, x5, x6) := by
  funext i
  unfold sc_kz sc_uk upd
  by_cases e : i = c
  · simp only [if_pos e]
  · simp only [if_neg e]
theorem sc_xr_c {K K' : Nat → sc_Ce} {f : Nat} : ∀ {n : Nat} {s : sc_Rm}, (∀ i, i < f + n → K i = K' i) → sc_xr K f n s = sc_xr K' f n s
  | 0, _, _ => rfl
  | n + 1, s, h => by
    simp only [sc_xr]
    rw [sc_xr_c (n := n) (fun i hi => h i (by omega)), h (f + n) (by omega)]
theorem sc_uk_lt {K : Nat → sc_Ce} {c i : Nat} {v : sc_Ce} (h : i < c) : sc_uk K c v i = K i := if_neg (by omega)
theorem sc_uk_s {K : Nat → sc_Ce} {c : Nat} {v : sc_Ce} : sc_uk K c v c = v := if_pos rfl
theorem sc_vl_n {v : Int32} {g : Nat → Int32} : sc_vl (-1) v g = v := if_pos (by decide)
theorem sc_vl_r {v : Int32} {g : Nat → Int32} {r : Nat} (h : r < 2 ^ 31) : sc_vl (nI r) v g = g r := by
  unfold sc_vl
  rw [if_neg (nI_pos h), nI_clamp h]
/-- known by a constant, or by a register below s -/
def sc_kr (s : Nat) (x : Int32) : Prop := x = -1 ∨ ∃ r, r < s ∧ x = nI r
theorem sc_kr_m {s s' : Nat} {x : Int32} (h : s ≤ s') (H : sc_kr s x) : sc_kr s' x := H.elim Or.inl (fun ⟨r, hr, e⟩ => Or.inr ⟨r, by omega, e⟩)
theorem sc_kr_b {s : Nat} {x : Int32} (hs : s ≤ 64) (H : sc_kr s x) : vp_nar .byte x = x := by
  rcases H with rfl | ⟨r, hr, rfl⟩
  · exact sc_nm1'
  · exact sc_byte (by omega)
theorem sc_kr_b2 {s : Nat} {x : Int32} (hs : s ≤ 64) (H : sc_kr s x) : vp_nar .byte (x.toInt8.toInt32) = x := by
  rcases H with rfl | ⟨r, hr, rfl⟩
  · exact sc_nm1
  · exact sc_byte2 (by omega)
theorem sc_vl_u {s t : Nat} {x v y : Int32} {g : Nat → Int32} (hs : s ≤ 64) (ht : t < 64) (H : sc_kr s x) (hx : x ≠ nI t) : sc_vl x v (upd g t y) = sc_vl x v g := by
  rcases H with rfl | ⟨r, hr, rfl⟩
  · rw [sc_vl_n, sc_vl_n]
  · rw [sc_vl_r (by omega), sc_vl_r (by omega), pk_un]
    intro e
    exact hx (by rw [e])
/-- the registers and what is known of the cells give the stack machine's state -/
def sc_Mt (kn : Nat) (KR KV : Nat → Int32) (s : sc_Rm) (b : sc_Ab) : Prop := (∀ i, i < 4 → s.1 i = b.2.1 i) ∧ (∀ k, k < kn → sc_vl (KR k) (KV k) s.1 = b.1 k) ∧ s.2 = b.2.2
def sc_Mi (h : Nat) (g : Nat → Int32) (a : sc_Ab) : Prop := (∀ i, i < 4 → g i = a.2.1 i) ∧ ∀ k, k < h → g (4 + k) = a.1 k
section
variable {kn s : Nat} {KR KV : Nat → Int32} {m : sc_Rm} {b : sc_Ab}
theorem sc_Mt_mv {t k0 : Nat} {x y : Int32} (hs : s ≤ 64) (ht : t < 64) (h4 : 4 ≤ t) (hk : k0 < kn) (O : ∀ k, k < kn → sc_kr s (KR k)) (nt : ∀ k, k < kn → k ≠ k0 → KR k ≠ nI t) (M : sc_Mt kn KR KV m b) :
    sc_Mt kn (upd KR k0 (nI t)) KV (sc_x1 (14, nI t, KR k0, KV k0, x, y) m) b := by
  obtain ⟨m1, m2, m3⟩ := M
  have e : sc_x1 (14, nI t, KR k0, KV k0, x, y) m = (upd m.1 t (sc_vl (KR k0) (KV k0) m.1), m.2) := by
    unfold sc_x1
    dsimp only
    rw [if_neg (by decide), if_pos rfl, nI_clamp (by omega)]
  rw [e]
  refine ⟨fun i hi => ?_, fun k hk' => ?_, m3⟩
  · dsimp only
    rw [pk_un (by omega)]; exact m1 i hi
  · dsimp only
    by_cases z : k = k0
    · subst z
      rw [pk_us, sc_vl_r (by omega), pk_us, m2 k hk]
    · rw [pk_un z, sc_vl_u hs ht (O k hk') (nt k hk' z), m2 k hk']
theorem sc_Mt_keep0 {l : Nat} (hl : l < 4) (e : KR kn = nI l) (M : sc_Mt (kn + 1) KR KV m b) : sc_Mt kn KR KV m (b.1, upd b.2.1 l (b.1 kn), b.2.2) := by
  obtain ⟨m1, m2, m3⟩ := M
  have h := m2 kn (by omega)
  rw [e, sc_vl_r (by omega)] at h
  refine ⟨fun i hi => ?_, fun k hk => m2 k (by omega), m3⟩
  dsimp only
  by_cases z : i = l
  · subst z
    rw [pk_us, h]
  · rw [pk_un z]; exact m1 i hi
theorem sc_Mt_keep1 {l : Nat} {x y : Int32} (hs : s ≤ 64) (hl : l < 4) (O : ∀ k, k < kn → sc_kr s (KR k)) (nl : ∀ k, k < kn → KR k ≠ nI l) (M : sc_Mt (kn + 1) KR KV m b) : sc_Mt kn KR KV (sc_x1 (14, nI l, KR kn, KV kn, x, y) m) (b.1, upd b.2.1 l (b.1 kn), b.2.2) := by
  obtain ⟨m1, m2, m3⟩ := M
  have e : sc_x1 (14, nI l, KR kn, KV kn, x, y) m = (upd m.1 l (b.1 kn), m.2) := by
    unfold sc_x1
    dsimp only
    rw [if_neg (by decide), if_pos rfl, nI_clamp (by omega), m2 kn (by omega)]
  rw [e]
  refine ⟨fun i hi => ?_, fun k hk => ?_, m3⟩
  · dsimp only
    by_cases z : i = l
    · subst z; rw [pk_us, pk_us]
    · rw [pk_un z, pk_un z]; exact m1 i hi
  · dsimp only
    rw [sc_vl_u hs (by omega) (O k hk) (nl k hk)]
    exact m2 k (by omega)
theorem sc_Mt_push {x v w : Int32} (M : sc_Mt kn KR KV m b) (e : sc_vl x v m.1 = w) : sc_Mt (kn + 1) (upd KR kn x) (upd KV kn v) m (upd b.1 kn w, b.2) := by
  obtain ⟨m1, m2, m3⟩ := M
  refine ⟨m1, fun k hk => ?_, m3⟩
  dsimp only
  by_cases z : k = kn
  · subst z; rw [pk_us, pk_us, pk_us]; exact e
  · rw [pk_un z, pk_un z, pk_un z]; exact m2 k (by omega)
theorem sc_Mt_dup (M : sc_Mt (kn + 1) KR KV m b) : sc_Mt (kn + 1 + 1) (upd KR (kn + 1) (KR kn)) (upd KV (kn + 1) (KV kn)) m (upd (upd b.1 kn (b.1 kn)) (kn + 1) (b.1 kn), b.2) := by
  have e : upd b.1 kn (b.1 kn) = b.1 := by
    funext i
    by_cases z : i = kn
    · subst z; rw [pk_us]
    · rw [pk_un z]
  rw [e]
  exact sc_Mt_push M (M.2.1 kn (by omega))
theorem sc_Mt_swap (M : sc_Mt (kn + 1 + 1) KR KV m b) : sc_Mt (kn + 1 + 1) (upd (upd KR (kn + 1) (KR kn)) kn (KR (kn + 1))) (upd (upd KV (kn + 1) (KV kn)) kn (KV (kn + 1))) m (upd (upd b.1 kn (b.1 (kn + 1))) (kn + 1) (b.1 kn), b.2) := by
  obtain ⟨m1, m2, m3⟩ := M
  refine ⟨m1, fun k hk => ?_, m3⟩
  dsimp only
  by_cases z : k = kn
  · subst z
    rw [pk_us, pk_us, pk_un (show k ≠ k + 1 by omega), pk_us]
    exact m2 (k + 1) (by omega)
  · by_cases y : k = kn + 1
    · subst y
      rw [pk_un z, pk_us, pk_un z, pk_us, pk_us]
      exact m2 kn (by omega)
    · rw [pk_un z, pk_un y, pk_un z, pk_un y, pk_un y, pk_un z]
      exact m2 k hk
theorem sc_Mt_out {x y z : Int32} (M : sc_Mt (kn + 1) KR KV m b) : sc_Mt kn KR KV (sc_x1 (10, z, KR kn, KV kn, x, y) m) (b.1, b.2.1, sc_sh b.2.2.1 (b.1 kn), b.2.2.2 + 1) := by
  obtain ⟨m1, m2, m3⟩ := M
  have e : sc_x1 (10, z, KR kn, KV kn, x, y) m = (m.1, sc_sh m.2.1 (b.1 kn), m.2.2 + 1) := by
    unfold sc_x1
    dsimp only
    rw [if_pos rfl, m2 kn (by omega)]
  rw [e]
  refine ⟨m1, fun k hk => m2 k (by omega), ?_⟩
  dsimp only
  rw [m3]
theorem sc_Mt_pop (M : sc_Mt (kn + 1) KR KV m b) : sc_Mt kn KR KV m b := ⟨M.1, fun k hk => M.2.1 k (by omega), M.2.2⟩
theorem sc_Mt_op0 {k : Int32} (e1 : KR kn = -1) (e2 : KR (kn + 1) = -1) (M : sc_Mt (kn + 1 + 1) KR KV m b) : sc_Mt (kn + 1) KR (upd KV kn (sc_rs k (KV kn) (KV (kn + 1)))) m (upd b.1 kn (sc_rs k (b.1 kn) (b.1 (kn + 1))), b.2) := by
  obtain ⟨m1, m2, m3⟩ := M
  have h1 := m2 kn (by omega)
  have h2 := m2 (kn + 1) (by omega)
  rw [e1, sc_vl_n] at h1
  rw [e2, sc_vl_n] at h2
  refine ⟨m1, fun i hi => ?_, m3⟩
  dsimp only
  by_cases z : i = kn
  · subst z
    rw [e1, sc_vl_n, pk_us, pk_us, h1, h2]
  · rw [pk_un z, pk_un z]; exact m2 i (by omega)
theorem sc_Mt_op1 {k : Int32} (k10 : k ≠ 10) (k14 : k ≠ 14) (h10 : 10 ≤ s) (hs : s < 64) (O : ∀ i, i < kn + 1 → sc_kr s (KR i)) (M : sc_Mt (kn + 1 + 1) KR KV m b) :
    sc_Mt (kn + 1) (upd KR kn (nI s)) KV (sc_x1 (k, nI s, KR kn, KV kn, KR (kn + 1), KV (kn + 1)) m) (upd b.1 kn (sc_rs k (b.1 kn) (b.1 (kn + 1))), b.2) := by
  obtain ⟨m1, m2, m3⟩ := M
  have e : sc_x1 (k, nI s, KR kn, KV kn, KR (kn + 1), KV (kn + 1)) m = (upd m.1 s (sc_rs k (b.1 kn) (b.1 (kn + 1))), m.2) := by
    unfold sc_x1
    dsimp only
    rw [if_neg k10, if_neg k14, nI_clamp (by omega), m2 kn (by omega), m2 (kn + 1) (by omega)]
  rw [e]
  refine ⟨fun i hi => ?_, fun i hi => ?_, m3⟩
  · dsimp only
    rw [pk_un (by omega)]; exact m1 i hi
  · dsimp only
    by_cases z : i = kn
    · subst z
      rw [pk_us, sc_vl_r (by omega), pk_us, pk_us]
    · rw [pk_un z, pk_un z, sc_vl_u (Nat.le_of_lt hs) hs (O i hi)]
      · exact m2 i (by omega)
      · rcases O i hi with w | ⟨r, hr, w⟩
        · rw [w]
          intro q
          have := nI_pos' (n := s) (by omega)
          rw [← q] at this
          exact absurd this (by decide)
        · rw [w]
          intro q
          have := (nI_eq (by omega) (by omega)).mp q
          omega
end
end
section
/-! sums; the core of what holds while a block is compiled -/
def sc_sm (f : Nat → Nat) : Nat → Nat
  | 0 => 0
  | n + 1 => sc_sm f n + f n
theorem sc_sm_c {f g : Nat → Nat} : ∀ {n : Nat}, (∀ k, k < n → f k = g k) → sc_sm f n = sc_sm g n
  | 0, _ => rfl
  | n + 1, h => by simp only [sc_sm]; rw [sc_sm_c (n := n) (fun k hk => h k (by omega)), h n (by omega)]
theorem sc_sm_u {f g : Nat → Nat} {a : Nat} (h : ∀ k, k ≠ a → f k = g k) : ∀ {n : Nat}, a < n → sc_sm g n + f a = sc_sm f n + g a
  | 0, z => by omega
  | n + 1, z => by
    simp only [sc_sm]
    by_cases e : a = n
    · subst e
      rw [sc_sm_c (f := g) (g := f) (fun k hk => (h k (by omega)).symm)]; omega
    · have := sc_sm_u h (n := n) (by omega)
      rw [h n (by omega)]; omega
theorem sc_sm_le {f : Nat → Nat} {c : Nat} (h : ∀ k, f k ≤ c) : ∀ n, sc_sm f n ≤ c * n
  | 0 => Nat.le_refl _
  | n + 1 => by simp only [sc_sm]; have := sc_sm_le h n; have := h n; rw [Nat.mul_succ]; omega
theorem sc_sm_ge {f : Nat → Nat} {a : Nat} : ∀ {n : Nat}, a < n → f a ≤ sc_sm f n
  | 0, z => by omega
  | n + 1, z => by
    simp only [sc_sm]
    by_cases e : a = n
    · subst e; omega
    · have := sc_sm_ge (f := f) (a := a) (n := n) (by omega); omega
def sc_il (x : Int32) : Nat := if x = 0 ∨ x = 1 ∨ x = 2 ∨ x = 3 then 1 else 0
def sc_nl (KR : Nat → Int32) (kn : Nat) : Nat := sc_sm (fun k => sc_il (KR k)) kn
theorem sc_il_le (x : Int32) : sc_il x ≤ 1 := by unfold sc_il; split <;> omega
theorem sc_il_n : sc_il (-1) = 0 := by decide
theorem sc_il_l : ∀ l, l < 4 → sc_il (nI l) = 1 := by decide
theorem sc_il_g : ∀ t, t < 64 → 4 ≤ t → sc_il (nI t) = 0 := by decide +kernel
def sc_ck (x : sc_Ce) : Prop := sc_kr 64 x.2.2.1 ∧ sc_kr 64 x.2.2.2.2.1 ∧ ∃ t, t < 64 ∧ x.2.1 = nI t
def sc_BC (K0 : Nat → sc_Ce) (f c1 s1 h0 : Nat) (G : sc_Ab → sc_Ab) (v : Nat) (K : Nat → sc_Ce) (c kn s : Nat) (KR KV : Nat → Int32) : Prop :=
  (f ≤ c ∧ c + v ≤ c1 ∧ 10 ≤ s ∧ s + v ≤ s1 ∧ c1 ≤ 256 ∧ s1 ≤ 63) ∧ (∀ k, k < kn → sc_kr s (KR k)) ∧ (∀ i, i < c → sc_ck (K i)) ∧ (∀ i, i < f → K i = K0 i) ∧
  ∀ g a, sc_Mi h0 g a → sc_Mt kn KR KV (sc_xr K f (c - f) (g, a.2.2)) (G a)
section
variable {K0 K : Nat → sc_Ce} {f c1 s1 h0 v c kn s : Nat} {G : sc_Ab → sc_Ab} {KR KV : Nat → Int32}
theorem sc_BC_w (B : sc_BC K0 f c1 s1 h0 G v K c kn s KR KV) (cell : sc_Ce) (kn' s' : Nat) (KR' KV' : Nat → Int32) (v' e : Nat) (H : sc_Ab → sc_Ab) (hck : sc_ck cell) (hv : v' + 1 ≤ v + e) (hs1 : s ≤ s') (hs2 : s' ≤ s + 1) (he : c1 + e ≤ 256) (he2 : s1 + e ≤ 63)
    (O : ∀ k, k < kn' → sc_kr s' (KR' k)) (st : ∀ m b, sc_Mt kn KR KV m b → sc_Mt kn' KR' KV' (sc_x1 cell m) (H b)) :
    sc_BC K0 f (c1 + e) (s1 + e) h0 (fun a => H (G a)) v' (sc_uk K c cell) (c + 1) kn' s' KR' KV' := by
  obtain ⟨⟨b1, b2, b3, b4, b5, b6⟩, b7, b8, b9, b10⟩ := B
  refine ⟨⟨by omega, by omega, by omega, by omega, by omega, by omega⟩, O, lt_s (fun i hi => ?_) ?_, fun i hi => ?_, fun g a hm => ?_⟩
  · rw [sc_uk_lt hi]; exact b8 i hi
  · rw [sc_uk_s]; exact hck
  · rw [sc_uk_lt (by omega)]; exact b9 i hi
  · have e1 : c + 1 - f = (c - f) + 1 := by omega
    rw [e1]
    simp only [sc_xr]
    rw [show f + (c - f) = c by omega, sc_uk_s, sc_xr_c (K := sc_uk K c cell) (K' := K) (fun i hi => sc_uk_lt (by omega))]
    exact st _ _ (b10 g a hm)
theorem sc_BC_n (B : sc_BC K0 f c1 s1 h0 G v K c kn s KR KV) (kn' : Nat) (KR' KV' : Nat → Int32) (v' e : Nat) (H : sc_Ab → sc_Ab) (hv : v' ≤ v + e) (he : c1 + e ≤ 256) (he2 : s1 + e ≤ 63)
    (O : ∀ k, k < kn' → sc_kr s (KR' k)) (st : ∀ m b, sc_Mt kn KR KV m b → sc_Mt kn' KR' KV' m (H b)) :
    sc_BC K0 f (c1 + e) (s1 + e) h0 (fun a => H (G a)) v' K c kn' s KR' KV' := by
  obtain ⟨⟨b1, b2, b3, b4, b5, b6⟩, b7, b8, b9, b10⟩ := B
  exact ⟨⟨by omega, by omega, by omega, by omega, by omega, by omega⟩, O, b8, b9, fun g a hm => st _ _ (b10 g a hm)⟩
/-- a cell gets a place or register of its own -/
theorem sc_BC_mv (B : sc_BC K0 f c1 s1 h0 G v K c kn s KR KV) (t k0 s' v' : Nat) (h4 : 4 ≤ t) (ht : t < s') (hk : k0 < kn) (hv : v' + 1 ≤ v) (hs1 : s ≤ s') (hs2 : s' ≤ s + 1) (nt : ∀ k, k < kn → k ≠ k0 → KR k ≠ nI t) :
    sc_BC K0 f c1 s1 h0 G v' (sc_uk K c (14, nI t, KR k0, KV k0, KR k0, KV k0)) (c + 1) kn s' (upd KR k0 (nI t)) KV := by
  have B' := B
  obtain ⟨⟨b1, b2, b3, b4, b5, b6⟩, b7, b8, b9, b10⟩ := B
  refine sc_BC_w B' (14, nI t, KR k0, KV k0, KR k0, KV k0) kn s' (upd KR k0 (nI t)) KV v' 0 (fun b => b) ⟨sc_kr_m (by omega) (b7 k0 hk), sc_kr_m (by omega) (b7 k0 hk), t, by omega, rfl⟩ (by omega) hs1 hs2 b5 b6 (fun k hk' => ?_) (fun m b M => sc_Mt_mv (s := s) (by omega) (by omega) h4 hk b7 nt M)
  by_cases z : k = k0
  · subst z; rw [pk_us]; exact Or.inr ⟨t, ht, rfl⟩
  · rw [pk_un z]; exact sc_kr_m hs1 (b7 k hk')
theorem sc_BC_fr (B : sc_BC K0 f c1 s1 h0 G v K c kn s KR KV) {k : Nat} (hk : k < kn) : KR k ≠ nI s := by
  obtain ⟨⟨b1, b2, b3, b4, b5, b6⟩, b7, b8, b9, b10⟩ := B
  rcases b7 k hk with w | ⟨r, hr, w⟩
  · rw [w]
    intro q
    have := nI_pos' (n := s) (by omega)
    rw [← q] at this
    exact absurd this (by decide)
  · rw [w]
    intro q
    have := (nI_eq (by omega) (by omega)).mp q
    omega
end
theorem sc_nl_u {KR : Nat → Int32} {a kn : Nat} {x : Int32} (h : a < kn) : sc_nl (upd KR a x) kn + sc_il (KR a) = sc_nl KR kn + sc_il x := by
  have := sc_sm_u (f := fun k => sc_il (KR k)) (g := fun k => sc_il (upd KR a x k)) (a := a) (fun k hk => by rw [pk_un hk]) h
  rw [pk_us] at this
  exact this
theorem sc_nl_o {KR : Nat → Int32} {a kn : Nat} {x : Int32} (h : kn ≤ a) : sc_nl (upd KR a x) kn = sc_nl KR kn := sc_sm_c fun k hk => by rw [pk_un (by omega)]
theorem sc_nl_s (KR : Nat → Int32) (kn : Nat) : sc_nl KR (kn + 1) = sc_nl KR kn + sc_il (KR kn) := rfl
end
section
/-! X: know, swap, spare, write, copyOut, keep, operate, translate -/
section
variable {sz jd cd cs kn sp st ax oc : Int32} {op nu hs nt wt CO CT LR LV RR RV ld cf ce be KR KV rg la : Nat → Int32}
theorem sc_xknow {post : SX → Prop} {m : Nat} {r v r' : Int32} (hr : vp_nar .byte r.toInt8.toInt32 = r') (hm : m < 8) (k : post (sz, jd, cd, cs, nI (m + 1), sp, st, ax, oc, op, nu, hs, nt, wt, CO, CT, LR, LV, RR, RV, ld, cf, ce, be, upd KR m r', upd KV m v, rg, la)) : wpX_know post (sz, jd, cd, cs, nI m, sp, st, ax, oc, op, nu, hs, nt, wt, CO, CT, LR, LV, RR, RV, ld, cf, ce, be, KR, KV, rg, la) r v := by
  unfold wpX_know
  dsimp only
  rw [nI_clamp (by omega), hr]
  exact ⟨vp_in_nI hm (by omega), nm_e ⟨vp_in_nI hm (by omega), nm_e (nm_r (nI_1 m) k)⟩⟩
theorem sc_xswap {post : SX → Prop} {a b : Nat} (ha : a < 8) (hb : b < 8) (na : vp_nar .byte (KR a) = KR a) (nb : vp_nar .byte (KR b) = KR b) (k : post (sz, jd, cd, cs, kn, sp, st, ax, oc, op, nu, hs, nt, wt, CO, CT, LR, LV, RR, RV, ld, cf, ce, be, upd (upd KR a (KR b)) b (KR a), upd (upd KV a (KV b)) b (KV a), rg, la)) : wpX_swap post (sz, jd, cd, cs, kn, sp, st, ax, oc, op, nu, hs, nt, wt, CO, CT, LR, LV, RR, RV, ld, cf, ce, be, KR, KV, rg, la) (nI a) (nI b) := by
  have va : vp_in (nI a) 8 := vp_in_nI ha (by omega)
  have vb : vp_in (nI b) 8 := vp_in_nI hb (by omega)
  unfold wpX_swap
  dsimp only
  rw [nI_clamp (n := a) (by omega), nI_clamp (n := b) (by omega), nb]
  exact ⟨va, nm_e ⟨va, nm_e ⟨vb, va, nm_e ⟨vb, va, nm_e ⟨vb, nm_r (by rw [na]) ⟨vb, nm_e k⟩⟩⟩⟩⟩⟩
theorem sc_xspare {post : Int32 → SX → Prop} {s : Nat} (hsp : s < 63) (k : post (nI s) (sz, jd, cd, cs, kn, nI (s + 1), st, ax, oc, op, nu, hs, nt, wt, CO, CT, LR, LV, RR, RV, ld, cf, ce, be, KR, KV, rg, la)) : wpX_spare post (sz, jd, cd, cs, kn, nI s, st, ax, oc, op, nu, hs, nt, wt, CO, CT, LR, LV, RR, RV, ld, cf, ce, be, KR, KV, rg, la) :=
  br_f (nI_ge (b := 63) hsp (by omega)) (nm_r (nI_1 s) k)
theorem sc_xwrite {post : SX → Prop} {c w t a b : Nat} (hc : c < 256) (hw : w < 128) (ht : t < 128) (ha : a < 8) (hb : b < 8) (na : vp_nar .byte (KR a) = KR a) (nb : vp_nar .byte (KR b) = KR b)
    (k : post (sz, jd, cd, nI (c + 1), kn, sp, st, ax, oc, op, nu, hs, nt, wt, upd CO c (nI w), upd CT c (nI t), upd LR c (KR a), upd LV c (KV a), upd RR c (KR b), upd RV c (KV b), ld, cf, ce, be, KR, KV, rg, la)) : wpX_write post (sz, jd, cd, nI c, kn, sp, st, ax, oc, op, nu, hs, nt, wt, CO, CT, LR, LV, RR, RV, ld, cf, ce, be, KR, KV, rg, la) (nI w) (nI t) (nI a) (nI b) := by
  have va : vp_in (nI a) 8 := vp_in_nI ha (by omega)
  have vb : vp_in (nI b) 8 := vp_in_nI hb (by omega)
  have vc : vp_in (nI c) 256 := vp_in_nI hc (by omega)
  unfold wpX_write
  dsimp only
  rw [nI_clamp (n := a) (by omega), nI_clamp (n := b) (by omega), nI_clamp (n := c) (by omega), na, nb, sc_byte2 hw, sc_byte2 ht]
  exact br_f (nI_ge (b := 256) hc (by omega)) ⟨vc, nm_e ⟨vc, nm_e ⟨va, vc, nm_e ⟨va, vc, nm_e ⟨vb, vc, nm_e ⟨vb, vc, nm_e (nm_r (nI_1 c) k)⟩⟩⟩⟩⟩⟩
theorem sc_xcopyOut {post : SX → Prop} {c s a : Nat} (hc : c < 256) (hsp : s < 63) (ha : a < 8) (na : vp_nar .byte (KR a) = KR a)
    (k : post (sz, jd, cd, nI (c + 1), kn, nI (s + 1), st, ax, oc, op, nu, hs, nt, wt, upd CO c 14, upd CT c (nI s), upd LR c (KR a), upd LV c (KV a), upd RR c (KR a), upd RV c (KV a), ld, cf, ce, be, upd KR a (nI s), KV, rg, la)) : wpX_copyOut post (sz, jd, cd, nI c, kn, nI s, st, ax, oc, op, nu, hs, nt, wt, CO, CT, LR, LV, RR, RV, ld, cf, ce, be, KR, KV, rg, la) (nI a) := by
  unfold wpX_copyOut
  dsimp only
  refine sc_xspare hsp (sc_xwrite (w := 14) hc (by decide) (by omega) ha ha na na ⟨vp_in_nI ha (by omega), ?_⟩)
  rw [nI_clamp (by omega), sc_byte2 (by omega)]
  exact nm_e k
theorem sc_xresult {post : Int32 → Prop} {w a b : Int32} (k : post (sc_rs w a b)) : wpX_result post w a b := by
  unfold sc_rs at k
  by_cases z3 : w = 3
  · rw [if_pos z3] at k; exact br_t z3 k
  · rw [if_neg z3] at k
    by_cases z4 : w = 4
    · rw [if_pos z4] at k; exact br_f z3 (br_t z4 k)
    · rw [if_neg z4] at k
      by_cases z5 : w = 5
      · rw [if_pos z5] at k; exact br_f z3 (br_f z4 (br_t z5 k))
      · rw [if_neg z5] at k
        by_cases z : b ≤ a
        · rw [if_pos z] at k; exact br_f z3 (br_f z4 (br_f z5 (br_t z k)))
        · rw [if_neg z] at k; exact br_f z3 (br_f z4 (br_f z5 (br_f z k)))
end
section
variable {sz jd cd cs kn sp st ax oc : Int32} {op nu hs nt wt CO CT LR LV RR RV ld cf ce be KR KV rg la : Nat → Int32}
variable {K0 : Nat → sc_Ce} {f c1 s1 h0 : Nat} {G : sc_Ab → sc_Ab}
theorem sc_xkeep12 {post : SX → Prop} {l m : Nat} (hl : l < 4) (hm : m < 7) (h256 : c1 + 1 ≤ 256) (h63 : s1 + 1 ≤ 63)
    (k : ∀ (c s : Nat) (CO CT LR LV RR RV KR KV : Nat → Int32), sc_BC K0 f (c1 + 1) (s1 + 1) h0 (fun a => ((G a).1, upd (G a).2.1 l ((G a).1 m), (G a).2.2)) (sc_nl KR m) (sc_kz CO CT LR LV RR RV) c m s KR KV → post (sz, jd, cd, nI c, nI m, nI s, st, ax, oc, op, nu, hs, nt, wt, CO, CT, LR, LV, RR, RV, ld, cf, ce, be, KR, KV, rg, la)) :
    ∀ (d i c s : Nat) (CO CT LR LV RR RV KR KV : Nat → Int32), i + d = m → (∀ k, k < i → KR k ≠ nI l) → sc_BC K0 f c1 s1 h0 G (sc_nl KR (m + 1)) (sc_kz CO CT LR LV RR RV) c (m + 1) s KR KV → wX_keep_12 post (nI l) (d + 1) (nI i) sz jd cd (nI c) (nI m) (nI s) st ax oc op nu hs nt wt CO CT LR LV RR RV ld cf ce be KR KV rg la := by
  intro d
  induction d with
  | zero =>
    intro i c s CO CT LR LV RR RV KR KV hi hn B
    have e : i = m := by omega
    subst e
    obtain ⟨⟨b1, b2, b3, b4, b5, b6⟩, b7, b8, b9, b10⟩ := id B
    have nls := sc_nl_s KR i
    refine br_t (nI_le (Nat.le_refl _) (by omega)) ⟨vp_in_nI (by omega) (by omega), ?_⟩
    rw [nI_clamp (by omega)]
    by_cases z : KR i = nI l
    · refine br_t z (k c s CO CT LR LV RR RV KR KV (sc_BC_n B i KR KV (sc_nl KR i) 1 (fun b => (b.1, upd b.2.1 l (b.1 i), b.2.2)) (by omega) h256 h63 (fun k hk => b7 k (by omega)) (fun m b M => sc_Mt_keep0 hl z M)))
    · have nb := sc_kr_b (by omega) (b7 i (by omega))
      refine br_f z (sc_xwrite (w := 14) (by omega) (by decide) (by omega) (by omega) (by omega) nb nb (k (c + 1) s (upd CO c 14) (upd CT c (nI l)) (upd LR c (KR i)) (upd LV c (KV i)) (upd RR c (KR i)) (upd RV c (KV i)) KR KV ?_))
      rw [sc_kz_u]
      refine sc_BC_w B _ i s KR KV (sc_nl KR i) 1 (fun b => (b.1, upd b.2.1 l (b.1 i), b.2.2)) ⟨sc_kr_m (by omega) (b7 i (by omega)), sc_kr_m (by omega) (b7 i (by omega)), l, by omega, rfl⟩ (by omega) (Nat.le_refl _) (by omega) h256 h63 (fun k hk => b7 k (by omega)) (fun m b M => sc_Mt_keep1 (s := s) (by omega) hl (fun k hk => b7 k (by omega)) hn M)
  | succ d ih =>
    intro i c s CO CT LR LV RR RV KR KV hi hn B
    obtain ⟨⟨b1, b2, b3, b4, b5, b6⟩, b7, b8, b9, b10⟩ := id B
    refine br_f (nI_ge (by omega) (by omega)) ⟨vp_in_nI (by omega) (by omega), ?_⟩
    rw [nI_clamp (by omega)]
    by_cases z : KR i = nI l
    · have nb := sc_kr_b (by omega) (b7 i (by omega))
      have u := sc_nl_u (KR := KR) (a := i) (kn := m + 1) (x := nI s) (by omega)
      have i1 : sc_il (KR i) = 1 := by rw [z, sc_il_l l hl]
      have i0 := sc_il_g s (by omega) (by omega)
      refine br_t z (sc_xcopyOut (by omega) (by omega) (by omega) nb (nm_r (nI_1 i) (ih (i + 1) (c + 1) (s + 1) (upd CO c 14) (upd CT c (nI s)) (upd LR c (KR i)) (upd LV c (KV i)) (upd RR c (KR i)) (upd RV c (KV i)) (upd KR i (nI s)) KV (by omega) (lt_s (fun k hk => ?_) ?_) ?_)))
      · rw [pk_un (by omega)]; exact hn k hk
      · rw [pk_us]
        intro q
        have := (nI_eq (by omega) (by omega)).mp q
        omega
      · rw [sc_kz_u]
        exact sc_BC_mv B s i (s + 1) _ (by omega) (by omega) (by omega) (by omega) (by omega) (by omega) (fun k hk _ => sc_BC_fr B hk)
    · exact br_f z (nm_r (nI_1 i) (ih (i + 1) c s CO CT LR LV RR RV KR KV (by omega) (lt_s hn z) B))
theorem sc_xop57 {post : SX → Prop} {w m c s : Nat} (hm : m < 6) (hw : 3 ≤ w ∧ w ≤ 6) (h256 : c1 + 1 ≤ 256) (h63 : s1 + 1 ≤ 63) (B : sc_BC K0 f c1 s1 h0 G (sc_nl KR (m + 2)) (sc_kz CO CT LR LV RR RV) c (m + 2) s KR KV)
    (k : ∀ (c s : Nat) (CO CT LR LV RR RV KR KV : Nat → Int32), sc_BC K0 f (c1 + 1) (s1 + 1) h0 (fun a => (upd (G a).1 m (sc_rs (nI w) ((G a).1 m) ((G a).1 (m + 1))), (G a).2)) (sc_nl KR (m + 1)) (sc_kz CO CT LR LV RR RV) c (m + 1) s KR KV → post (sz, jd, cd, nI c, nI (m + 1), nI s, st, ax, oc, op, nu, hs, nt, wt, CO, CT, LR, LV, RR, RV, ld, cf, ce, be, KR, KV, rg, la)) :
    wX_operate_57 post (nI w) (nI m) (nI (m + 1)) sz jd cd (nI c) (nI (m + 2)) (nI s) st ax oc op nu hs nt wt CO CT LR LV RR RV ld cf ce be KR KV rg la := by
  obtain ⟨⟨b1, b2, b3, b4, b5, b6⟩, b7, b8, b9, b10⟩ := id B
  have na := sc_kr_b (by omega) (b7 m (by omega))
  have nb := sc_kr_b (by omega) (b7 (m + 1) (by omega))
  have u := sc_nl_u (KR := KR) (a := m) (kn := m + 1) (x := nI s) (by omega)
  have us : sc_nl KR (m + 2) = sc_nl KR (m + 1) + sc_il (KR (m + 1)) := sc_nl_s KR (m + 1)
  have i0 := sc_il_g s (by omega) (by omega)
  have w1 : nI w ≠ 10 := fun q => by have := (nI_eq (a := w) (b := 10) (by omega) (by omega)).mp q; omega
  have w2 : nI w ≠ 14 := fun q => by have := (nI_eq (a := w) (b := 14) (by omega) (by omega)).mp q; omega
  refine sc_xspare (by omega) (sc_xwrite (by omega) (by omega) (by omega) (by omega) (by omega) na nb ⟨vp_in_nI (by omega) (by omega), ?_⟩)
  rw [nI_clamp (by omega), sc_byte2 (by omega)]
  refine nm_e (nm_r (nI_pred (m + 1)) (k (c + 1) (s + 1) (upd CO c (nI w)) (upd CT c (nI s)) (upd LR c (KR m)) (upd LV c (KV m)) (upd RR c (KR (m + 1))) (upd RV c (KV (m + 1))) (upd KR m (nI s)) KV ?_))
  rw [sc_kz_u]
  refine sc_BC_w B _ (m + 1) (s + 1) _ KV _ 1 (fun b => (upd b.1 m (sc_rs (nI w) (b.1 m) (b.1 (m + 1))), b.2)) ⟨sc_kr_m (by omega) (b7 m (by omega)), sc_kr_m (by omega) (b7 (m + 1) (by omega)), s, by omega, rfl⟩ (by omega) (by omega) (by omega) h256 h63 (fun i hi => ?_) (fun _ b M => sc_Mt_op1 w1 w2 b3 (by omega) (fun i hi => b7 i (by omega)) M)
  by_cases z : i = m
  · subst z; rw [pk_us]; exact Or.inr ⟨s, by omega, rfl⟩
  · rw [pk_un z]; exact sc_kr_m (by omega) (b7 i (by omega))
theorem sc_xoperate {post : SX → Prop} {w m c s : Nat} (hm : m < 6) (hw : 3 ≤ w ∧ w ≤ 6) (h256 : c1 + 1 ≤ 256) (h63 : s1 + 1 ≤ 63) (B : sc_BC K0 f c1 s1 h0 G (sc_nl KR (m + 2)) (sc_kz CO CT LR LV RR RV) c (m + 2) s KR KV)
    (k : ∀ (c s : Nat) (CO CT LR LV RR RV KR KV : Nat → Int32), sc_BC K0 f (c1 + 1) (s1 + 1) h0 (fun a => (upd (G a).1 m (sc_rs (nI w) ((G a).1 m) ((G a).1 (m + 1))), (G a).2)) (sc_nl KR (m + 1)) (sc_kz CO CT LR LV RR RV) c (m + 1) s KR KV → post (sz, jd, cd, nI c, nI (m + 1), nI s, st, ax, oc, op, nu, hs, nt, wt, CO, CT, LR, LV, RR, RV, ld, cf, ce, be, KR, KV, rg, la)) :
    wpX_operate post (sz, jd, cd, nI c, nI (m + 2), nI s, st, ax, oc, op, nu, hs, nt, wt, CO, CT, LR, LV, RR, RV, ld, cf, ce, be, KR, KV, rg, la) (nI w) := by
  obtain ⟨⟨b1, b2, b3, b4, b5, b6⟩, b7, b8, b9, b10⟩ := id B
  have va : vp_in (nI m) 8 := vp_in_nI (by omega) (by omega)
  have vb : vp_in (nI (m + 1)) 8 := vp_in_nI (by omega) (by omega)
  have ca : (nI m).toNatClampNeg = m := nI_clamp (by omega)
  have cb : (nI (m + 1)).toNatClampNeg = m + 1 := nI_clamp (by omega)
  have K57 := sc_xop57 (post := post) hm hw h256 h63 B k
  unfold wpX_operate
  dsimp only
  refine nm_r (e' := nI m) (pk_sub (a := m + 2) (b := 2) (by omega)) (nm_r (e' := nI (m + 1)) (nI_pred (m + 1)) ⟨va, ?_⟩)
  rw [ca, cb]
  rcases b7 m (by omega) with z | ⟨r, hr, z⟩
  · rcases b7 (m + 1) (by omega) with y | ⟨r, hr, y⟩
    · refine br_f (by rw [z]; decide) ⟨vb, br_f (by rw [y]; decide) ⟨va, vb, sc_xresult ⟨va, nm_e (nm_r (nI_pred (m + 1)) (k c s CO CT LR LV RR RV KR (upd KV m (sc_rs (nI w) (KV m) (KV (m + 1)))) ?_))⟩⟩⟩
      have us : sc_nl KR (m + 2) = sc_nl KR (m + 1) + sc_il (KR (m + 1)) := sc_nl_s KR (m + 1)
      exact sc_BC_n B (m + 1) KR _ _ 1 (fun b => (upd b.1 m (sc_rs (nI w) (b.1 m) (b.1 (m + 1))), b.2)) (by omega) h256 h63 (fun i hi => b7 i (by omega)) (fun _ b M => sc_Mt_op0 z y M)
    · exact br_f (by rw [z]; decide) ⟨vb, br_t (by rw [y]; exact nI_pos' (by omega)) K57⟩
  · exact br_t (by rw [z]; exact nI_pos' (by omega)) K57
theorem sc_xtranslate {post : SX → Prop} {w m c s : Nat} {n : Int32} (hm : m < 7) (hw : w < 11) (hc : sc_can w m) (hn : w = 1 ∨ w = 2 → ∃ j, j < 4 ∧ n = nI j) (h256 : c1 + 1 ≤ 256) (h63 : s1 + 1 ≤ 63)
    (B : sc_BC K0 f c1 s1 h0 G (sc_nl KR m) (sc_kz CO CT LR LV RR RV) c m s KR KV)
    (k : ∀ (c s : Nat) (CO CT LR LV RR RV KR KV : Nat → Int32), sc_BC K0 f (c1 + 1) (s1 + 1) h0 (fun a => sc_one w n m (G a)) (sc_nl KR (sc_hn w m)) (sc_kz CO CT LR LV RR RV) c (sc_hn w m) s KR KV → post (sz, jd, cd, nI c, nI (sc_hn w m), nI s, st, ax, oc, op, nu, hs, nt, wt, CO, CT, LR, LV, RR, RV, ld, cf, ce, be, KR, KV, rg, la)) :
    wpX_translate post (sz, jd, cd, nI c, nI m, nI s, st, ax, oc, op, nu, hs, nt, wt, CO, CT, LR, LV, RR, RV, ld, cf, ce, be, KR, KV, rg, la) (nI w) n := by
  obtain ⟨⟨b1, b2, b3, b4, b5, b6⟩, b7, b8, b9, b10⟩ := id B
  obtain ⟨hc1, hc2⟩ := hc
  have hw' : w = 0 ∨ w = 1 ∨ w = 2 ∨ (3 ≤ w ∧ w ≤ 6) ∨ w = 7 ∨ w = 8 ∨ w = 9 ∨ w = 10 := by omega
  unfold wpX_translate
  dsimp only
  rcases hw' with rfl | rfl | rfl | hw3 | rfl | rfl | rfl | rfl
  · have m6 : m < 6 := hc2.elim id (fun z => absurd (Or.inl rfl) z)
    refine br_t rfl (sc_xknow sc_nm1 (by omega) (k c s CO CT LR LV RR RV (upd KR m (-1)) (upd KV m n) ?_))
    refine sc_BC_n B (m + 1) _ _ _ 1 (fun b => (upd b.1 m n, b.2)) ?_ h256 h63 (fun i hi => ?_) (fun _ b M => sc_Mt_push M sc_vl_n)
    · show sc_nl _ (m + 1) ≤ _
      rw [sc_nl_s, sc_nl_o (Nat.le_refl _), pk_us, sc_il_n]; omega
    · by_cases z : i = m
      · subst z; rw [pk_us]; exact Or.inl rfl
      · rw [pk_un z]; exact b7 i (by omega)
  · have m6 : m < 6 := hc2.elim id (fun z => absurd (Or.inr (Or.inl rfl)) z)
    obtain ⟨j, hj, rfl⟩ := hn (Or.inl rfl)
    refine br_f (by decide) (br_t rfl (sc_xknow (sc_byte2 (m := j) (by omega)) (by omega) (k c s CO CT LR LV RR RV (upd KR m (nI j)) (upd KV m 0) ?_)))
    have e : (fun a => sc_one 1 (nI j) m (G a)) = fun a => (fun b : sc_Ab => (upd b.1 m (b.2.1 j), b.2)) (G a) := by
      funext a
      show (upd (G a).1 m ((G a).2.1 (nI j).toNatClampNeg), (G a).2) = _
      rw [nI_clamp (by omega)]
    rw [e]
    refine sc_BC_n B (m + 1) _ _ _ 1 (fun b => (upd b.1 m (b.2.1 j), b.2)) ?_ h256 h63 (fun i hi => ?_) (fun _ b M => sc_Mt_push M ?_)
    · show sc_nl _ (m + 1) ≤ _
      rw [sc_nl_s, sc_nl_o (Nat.le_refl _), pk_us, sc_il_l j hj]; omega
    · by_cases z : i = m
      · subst z; rw [pk_us]; exact Or.inr ⟨j, by omega, rfl⟩
      · rw [pk_un z]; exact b7 i (by omega)
    · rw [sc_vl_r (by omega)]; exact M.1 j hj
  · obtain ⟨j, hj, rfl⟩ := hn (Or.inr rfl)
    have m1 : 1 ≤ m := hc1
    obtain ⟨m, rfl⟩ : ∃ q, m = q + 1 := ⟨m - 1, by omega⟩
    refine br_f (by decide) (br_f (by decide) (br_f (by decide) (br_f (by decide) (br_t rfl ?_))))
    unfold wpX_keep
    dsimp only
    refine nm_r (nI_pred m) ⟨m + 1, sc_xkeep12 (m := m) hj (by omega) h256 h63 (fun c s CO CT LR LV RR RV KR KV B' => k c s CO CT LR LV RR RV KR KV ?_) m 0 c s CO CT LR LV RR RV KR KV (by omega) (fun _ h => by omega) B⟩
    have e : (fun a => sc_one 2 (nI j) (m + 1) (G a)) = fun a => ((G a).1, upd (G a).2.1 j ((G a).1 m), (G a).2.2) := by
      funext a
      show ((G a).1, upd (G a).2.1 (nI j).toNatClampNeg ((G a).1 m), (G a).2.2) = _
      rw [nI_clamp (by omega)]
    rw [e]; exact B'
  · have m2 : 2 ≤ m := by
      have : sc_nd w = 2 := by unfold sc_nd; rw [if_pos (Or.inl hw3)]
      omega
    obtain ⟨m, rfl⟩ : ∃ q, m = q + 2 := ⟨m - 2, by omega⟩
    have e1 : sc_hn w (m + 2) = m + 1 := by
      unfold sc_hn
      rw [if_neg (by simp only [sc_up]; omega), if_neg (by omega)]; rfl
    have e2 : (fun a => sc_one w n (m + 2) (G a)) = fun a => (upd (G a).1 m (sc_rs (nI w) ((G a).1 m) ((G a).1 (m + 1))), (G a).2) := by
      funext a
      unfold sc_one
      rw [if_neg (by omega), if_neg (by omega), if_neg (by omega), if_pos hw3.2]; rfl
    rw [e1, e2] at k
    have ne : ∀ q, q < 11 → q ≠ w → ¬ nI w = nI q := fun q hq hne z => hne ((nI_eq (by omega) (by omega)).mp z).symm
    exact br_f (ne 0 (by decide) (by omega)) (br_f (ne 1 (by decide) (by omega)) (br_f (ne 7 (by decide) (by omega)) (br_f (ne 8 (by decide) (by omega)) (br_f (ne 2 (by decide) (by omega)) (br_f (ne 10 (by decide) (by omega)) (br_f (ne 9 (by decide) (by omega)) (sc_xoperate (by omega) hw3 h256 h63 B k)))))))
  · have m6 : m < 6 := hc2.elim id (fun z => absurd (Or.inr (Or.inr rfl)) z)
    have m1 : 1 ≤ m := hc1
    obtain ⟨m, rfl⟩ : ∃ q, m = q + 1 := ⟨m - 1, by omega⟩
    have vm : vp_in (nI m) 8 := vp_in_nI (by omega) (by omega)
    refine br_f (by decide) (br_f (by decide) (br_t rfl ?_))
    rw [nI_pred, nI_clamp (by omega)]
    refine ⟨vm, vm, sc_xknow (sc_kr_b2 (by omega) (b7 m (by omega))) (by omega) (k c s CO CT LR LV RR RV (upd KR (m + 1) (KR m)) (upd KV (m + 1) (KV m)) ?_)⟩
    refine sc_BC_n B (m + 1 + 1) _ _ _ 1 (fun b => (upd (upd b.1 m (b.1 m)) (m + 1) (b.1 m), b.2)) ?_ h256 h63 (fun i hi => ?_) (fun _ b M => sc_Mt_dup M)
    · show sc_nl _ (m + 1 + 1) ≤ _
      have := sc_il_le (KR m)
      rw [sc_nl_s, sc_nl_o (Nat.le_refl _), pk_us]; omega
    · by_cases z : i = m + 1
      · subst z; rw [pk_us]; exact b7 m (by omega)
      · rw [pk_un z]; exact b7 i (by omega)
  · have m1 : 2 ≤ m := hc1
    obtain ⟨m, rfl⟩ : ∃ q, m = q + 1 + 1 := ⟨m - 2, by omega⟩
    have ea : nI (m + 1 + 1) - 2 = nI m := pk_sub (a := m + 2) (b := 2) (by omega)
    refine br_f (by decide) (br_f (by decide) (br_f (by decide) (br_t rfl ?_)))
    rw [ea, nI_pred]
    refine sc_xswap (by omega) (by omega) (sc_kr_b (by omega) (b7 (m + 1) (by omega))) (sc_kr_b (by omega) (b7 m (by omega))) (k c s CO CT LR LV RR RV (upd (upd KR (m + 1) (KR m)) m (KR (m + 1))) (upd (upd KV (m + 1) (KV m)) m (KV (m + 1))) ?_)
    refine sc_BC_n B (m + 1 + 1) _ _ _ 1 (fun b => (upd (upd b.1 m (b.1 (m + 1))) (m + 1) (b.1 m), b.2)) ?_ h256 h63 (fun i hi => ?_) (fun _ b M => sc_Mt_swap M)
    · show sc_nl _ (m + 1 + 1) ≤ _
      rw [sc_nl_s, sc_nl_s, sc_nl_s, sc_nl_s, sc_nl_o (Nat.le_refl _), sc_nl_o (by omega), pk_us, pk_un (by omega), pk_us]; omega
    · by_cases z : i = m
      · subst z; rw [pk_us]; exact b7 (i + 1) (by omega)
      · rw [pk_un z]
        by_cases y : i = m + 1
        · subst y; rw [pk_us]; exact b7 m (by omega)
        · rw [pk_un y]; exact b7 i (by omega)
  · have m1 : 1 ≤ m := hc1
    obtain ⟨m, rfl⟩ : ∃ q, m = q + 1 := ⟨m - 1, by omega⟩
    refine br_f (by decide) (br_f (by decide) (br_f (by decide) (br_f (by decide) (br_f (by decide) (br_f (by decide) (br_t rfl (nm_r (nI_pred m) (k c s CO CT LR LV RR RV KR KV ?_))))))))
    have us := sc_nl_s KR m
    exact sc_BC_n B m KR KV (sc_nl KR m) 1 (fun b => b) (by omega) h256 h63 (fun i hi => b7 i (by omega)) (fun _ b M => sc_Mt_pop M)
  · have m1 : 1 ≤ m := hc1
    obtain ⟨m, rfl⟩ : ∃ q, m = q + 1 := ⟨m - 1, by omega⟩
    have nb := sc_kr_b (by omega) (b7 m (by omega))
    refine br_f (by decide) (br_f (by decide) (br_f (by decide) (br_f (by decide) (br_f (by decide) (br_t rfl (nm_r (nI_pred m) (sc_xwrite (w := 10) (t := 0) (by omega) (by decide) (by decide) (by omega) (by omega) nb nb (k (c + 1) s (upd CO c 10) (upd CT c 0) (upd LR c (KR m)) (upd LV c (KV m)) (upd RR c (KR m)) (upd RV c (KV m)) KR KV ?_))))))))
    have us := sc_nl_s KR m
    rw [sc_kz_u]
    exact sc_BC_w B _ m s KR KV (sc_nl KR m) 1 (fun b => (b.1, b.2.1, sc_sh b.2.2.1 (b.1 m), b.2.2.2 + 1)) ⟨sc_kr_m (by omega) (b7 m (by omega)), sc_kr_m (by omega) (b7 m (by omega)), 0, by decide, rfl⟩ (by omega) (Nat.le_refl _) (by omega) h256 h63 (fun i hi => b7 i (by omega)) (fun _ b M => sc_Mt_out M)
end
end
section
/-! X: neededBy, flush -/
def sc_wk (k : Nat) (x : Int32) : Nat := if x = nI (4 + k) then 0 else if x = 4 ∨ x = 5 ∨ x = 6 ∨ x = 7 ∨ x = 8 ∨ x = 9 then 2 else 1
def sc_mu (KR : Nat → Int32) (m : Nat) : Nat := sc_sm (fun k => sc_wk k (KR k)) m
theorem sc_wk_2 : ∀ k, k < 6 → ∀ q, q < 6 → k ≠ q → sc_wk k (nI (4 + q)) = 2 := by decide +kernel
theorem sc_wk_1 : ∀ k, k < 6 → ∀ s, s < 64 → 10 ≤ s → sc_wk k (nI s) = 1 := by decide +kernel
theorem sc_wk_0 (k : Nat) : sc_wk k (nI (4 + k)) = 0 := if_pos rfl
theorem sc_wk_le (k : Nat) (x : Int32) : sc_wk k x ≤ 2 := by
  unfold sc_wk
  split
  · omega
  · split <;> omega
theorem sc_wk_p {k : Nat} {x : Int32} (h : x ≠ nI (4 + k)) : 1 ≤ sc_wk k x := by
  unfold sc_wk
  rw [if_neg h]
  split <;> omega
theorem sc_mu_u {KR : Nat → Int32} {a m : Nat} {x : Int32} (h : a < m) : sc_mu (upd KR a x) m + sc_wk a (KR a) = sc_mu KR m + sc_wk a x := by
  have := sc_sm_u (f := fun k => sc_wk k (KR k)) (g := fun k => sc_wk k (upd KR a x k)) (a := a) (fun k hk => by rw [pk_un hk]) h
  rw [pk_us] at this
  exact this
theorem sc_mu_p {KR : Nat → Int32} {a m : Nat} (h : a < m) (hn : KR a ≠ nI (4 + a)) : 1 ≤ sc_mu KR m := Nat.le_trans (sc_wk_p hn) (sc_sm_ge (f := fun k => sc_wk k (KR k)) h)
theorem sc_mu_12 {KR : Nat → Int32} {m : Nat} (h : m ≤ 6) : sc_mu KR m ≤ 12 := by
  have := sc_sm_le (f := fun k => sc_wk k (KR k)) (c := 2) (fun k => sc_wk_le _ _) m
  unfold sc_mu
  omega
theorem sc_mu_0 {KR : Nat → Int32} {m : Nat} (h : ∀ k, k < m → KR k = nI (4 + k)) : sc_mu KR m = 0 := by
  have e : sc_mu KR m = sc_sm (fun _ => 0) m := sc_sm_c fun k hk => by rw [h k hk, sc_wk_0]
  have := sc_sm_le (f := fun _ => 0) (c := 0) (fun _ => Nat.le_refl _) m
  omega
section
variable {sz jd cd cs kn sp st ax oc : Int32} {op nu hs nt wt CO CT LR LV RR RV ld cf ce be KR KV rg la : Nat → Int32}
theorem sc_xneeded {post : Int32 → Prop} {q m : Nat} (hm : m ≤ 6) (hq : q < m) (h0 : (∀ k, k < m → k ≠ q → KR k ≠ nI (4 + q)) → post (-1)) (h1 : ∀ k, k < m → k ≠ q → KR k = nI (4 + q) → post (nI k)) : wpX_neededBy post (sz, jd, cd, cs, nI m, sp, st, ax, oc, op, nu, hs, nt, wt, CO, CT, LR, LV, RR, RV, ld, cf, ce, be, KR, KV, rg, la) (nI q) := by
  have e4 : (4 : Int32) + nI q = nI (4 + q) := nI_add 4 q
  have key : ∀ d i, i + d = m → (∀ k, k < i → k ≠ q → KR k ≠ nI (4 + q)) → wX_neededBy_2 post (nI q) sz jd cd cs (nI m) sp st ax oc op nu hs nt wt CO CT LR LV RR RV ld cf ce be KR KV rg la (d + 1) (nI i) := by
    intro d
    induction d with
    | zero => intro i hi hz; exact br_t (nI_le (by omega) (by omega)) (h0 fun k hk => hz k (by omega))
    | succ d ih =>
      intro i hi hz
      refine br_f (nI_ge (by omega) (by omega)) (pk_eq i q (fun e => nm_r (nI_1 i) (ih (i + 1) (by omega) (lt_s hz (fun w => absurd e w)))) (fun e => ⟨vp_in_nI (by omega) (by omega), ?_⟩))
      rw [nI_clamp (by omega), e4]
      by_cases z : KR i = nI (4 + q)
      · exact br_t z (h1 i (by omega) e z)
      · exact br_f z (nm_r (nI_1 i) (ih (i + 1) (by omega) (lt_s hz (fun _ => z))))
  exact ⟨m + 1, key m 0 (by omega) (fun k hk => by omega)⟩
def sc_nd' (KR : Nat → Int32) (m q : Nat) : Prop := ∃ k, k < m ∧ k ≠ q ∧ KR k = nI (4 + q)
theorem sc_xf15 {post : SX → Prop} {J2 : Int32 → Int32 → Int32 → Int32 → Int32 → Int32 → Int32 → Int32 → Int32 → Int32 → (Nat → Int32) → (Nat → Int32) → (Nat → Int32) → (Nat → Int32) → (Nat → Int32) → (Nat → Int32) → (Nat → Int32) → (Nat → Int32) → (Nat → Int32) → (Nat → Int32) → (Nat → Int32) → (Nat → Int32) → (Nat → Int32) → (Nat → Int32) → (Nat → Int32) → (Nat → Int32) → (Nat → Int32) → (Nat → Int32) → (Nat → Int32) → Prop} {m r c s : Nat} (hm : m ≤ 6)
    (hc : ∀ k, k < m → KR k ≠ nI (4 + k) → c < 256 ∧ s < 63) (nb : ∀ k, k < m → vp_nar .byte (KR k) = KR k)
    (kd : (∀ k, k < m → KR k = nI (4 + k)) → J2 (nI (r + 1)) sz jd cd (nI c) (nI m) (nI s) st ax oc op nu hs nt wt CO CT LR LV RR RV ld cf ce be KR KV rg la)
    (kf : ∀ q, q < m → KR q ≠ nI (4 + q) → (∀ k, k < m → k ≠ q → KR k ≠ nI (4 + q)) → J2 (nI (r + 1)) sz jd cd (nI (c + 1)) (nI m) (nI s) st ax oc op nu hs nt wt (upd CO c 14) (upd CT c (nI (4 + q))) (upd LR c (KR q)) (upd LV c (KV q)) (upd RR c (KR q)) (upd RV c (KV q)) ld cf ce be (upd KR q (nI (4 + q))) KV rg la)
    (ks : ∀ q a, q < m → a < m → KR q ≠ nI (4 + q) → a ≠ q → KR a = nI (4 + q) → J2 (nI (r + 1)) sz jd cd (nI (c + 1)) (nI m) (nI (s + 1)) st ax oc op nu hs nt wt (upd CO c 14) (upd CT c (nI s)) (upd LR c (KR a)) (upd LV c (KV a)) (upd RR c (KR a)) (upd RV c (KV a)) ld cf ce be (upd KR a (nI s)) KV rg la) :
    ∀ (d i : Nat) (x2 x3 : Int32), i + d = m → ((x3 = -1 ∧ x2 = -1 ∧ ∀ k, k < i → KR k = nI (4 + k)) ∨ (∃ q, q < i ∧ x3 = nI q ∧ KR q ≠ nI (4 + q) ∧ ((x2 = -1 ∧ ∀ k, k < i → KR k ≠ nI (4 + k) → sc_nd' KR m k) ∨ (∃ g, g < i ∧ x2 = nI g ∧ KR g ≠ nI (4 + g) ∧ ¬ sc_nd' KR m g)))) →
      wX_flush_15 post J2 (nI r) sz jd cd (nI c) (nI m) (nI s) st ax oc op nu hs nt wt CO CT LR LV RR RV ld cf ce be KR KV rg la (d + 1) x2 x3 (nI i) := by
  intro d
  induction d with
  | zero =>
    intro i x2 x3 hi I
    have e : i = m := by omega
    subst e
    refine br_t (nI_le (Nat.le_refl _) (by omega)) ?_
    rcases I with ⟨rfl, rfl, h⟩ | ⟨q, hq, rfl, hn, ⟨rfl, h⟩ | ⟨g, hg, rfl, gn, h⟩⟩
    · exact br_t (by decide) (br_t (by decide) (nm_r (nI_1 r) (kd h)))
    · obtain ⟨b1, b2⟩ := hc q hq hn
      refine br_t (by decide) (br_f (nI_pos (by omega)) (sc_xneeded hm hq (fun z => ?_) (fun a ha hne he => sc_xcopyOut b1 b2 (by omega) (nb a ha) (nm_r (nI_1 r) (ks q a hq ha hn hne he)))))
      obtain ⟨k, k1, k2, k3⟩ := h q hq hn
      exact absurd k3 (z k k1 k2)
    · obtain ⟨b1, b2⟩ := hc g hg gn
      have e4 : (4 : Int32) + nI g = nI (4 + g) := nI_add 4 g
      refine br_f (nI_pos (by omega)) ?_
      rw [e4]
      refine sc_xwrite (w := 14) b1 (by decide) (by omega) (by omega) (by omega) (nb g hg) (nb g hg) ⟨vp_in_nI (by omega) (by omega), ?_⟩
      rw [nI_clamp (by omega), sc_byte2 (by omega)]
      exact nm_e (nm_r (nI_1 r) (kf g hg gn (fun k k1 k2 k3 => h ⟨k, k1, k2, k3⟩)))
  | succ d ih =>
    intro i x2 x3 hi I
    have e4 : (4 : Int32) + nI i = nI (4 + i) := nI_add 4 i
    refine br_f (nI_ge (by omega) (by omega)) ⟨vp_in_nI (by omega) (by omega), ?_⟩
    rw [nI_clamp (by omega), e4]
    by_cases z : KR i = nI (4 + i)
    · refine br_t z (nm_r (nI_1 i) (ih (i + 1) x2 x3 (by omega) ?_))
      rcases I with ⟨h1, h2, h⟩ | ⟨q, hq, h1, hn, ⟨h2, h⟩ | ⟨g, hg, h2, gn, h⟩⟩
      · exact Or.inl ⟨h1, h2, lt_s h z⟩
      · exact Or.inr ⟨q, by omega, h1, hn, Or.inl ⟨h2, lt_s h (fun w => absurd z w)⟩⟩
      · exact Or.inr ⟨q, by omega, h1, hn, Or.inr ⟨g, by omega, h2, gn, h⟩⟩
    · refine br_f z (sc_xneeded hm (by omega) (fun w => ?_) (fun a ha hne he => ?_))
      · refine br_f (by decide) (nm_r (nI_1 i) (ih (i + 1) (nI i) (nI i) (by omega) (Or.inr ⟨i, by omega, rfl, z, Or.inr ⟨i, by omega, rfl, z, fun ⟨k, k1, k2, k3⟩ => w k k1 k2 k3⟩⟩)))
      · refine br_t (nI_pos' (by omega)) (nm_r (nI_1 i) (ih (i + 1) x2 (nI i) (by omega) (Or.inr ⟨i, by omega, rfl, z, ?_⟩)))
        have nd : sc_nd' KR m i := ⟨a, ha, hne, he⟩
        rcases I with ⟨h1, h2, h⟩ | ⟨q, hq, h1, hn, ⟨h2, h⟩ | ⟨g, hg, h2, gn, h⟩⟩
        · exact Or.inl ⟨h2, lt_s (fun k hk w => absurd (h k hk) w) (fun _ => nd)⟩
        · exact Or.inl ⟨h2, lt_s h (fun _ => nd)⟩
        · exact Or.inr ⟨g, by omega, h2, gn, h⟩
theorem sc_xflush {post : SX → Prop} {K0 : Nat → sc_Ce} {f c1 s1 h0 m c s : Nat} {G : sc_Ab → sc_Ab} (hm : m ≤ 6) (B : sc_BC K0 f c1 s1 h0 G (sc_mu KR m) (sc_kz CO CT LR LV RR RV) c m s KR KV)
    (k : ∀ (c s : Nat) (CO CT LR LV RR RV KR KV : Nat → Int32), sc_BC K0 f c1 s1 h0 G 0 (sc_kz CO CT LR LV RR RV) c m s KR KV → (∀ k, k < m → KR k = nI (4 + k)) → post (sz, jd, cd, nI c, nI m, nI s, st, ax, oc, op, nu, hs, nt, wt, CO, CT, LR, LV, RR, RV, ld, cf, ce, be, KR, KV, rg, la)) : wpX_flush post (sz, jd, cd, nI c, nI m, nI s, st, ax, oc, op, nu, hs, nt, wt, CO, CT, LR, LV, RR, RV, ld, cf, ce, be, KR, KV, rg, la) := by
  have key : ∀ (d r c s : Nat) (CO CT LR LV RR RV KR KV : Nat → Int32), r + d = 18 → sc_BC K0 f c1 s1 h0 G (sc_mu KR m) (sc_kz CO CT LR LV RR RV) c m s KR KV → ((∀ k, k < m → KR k = nI (4 + k)) ∨ sc_mu KR m + r ≤ 12) → wX_flush_2 post (d + 1) (nI r) sz jd cd (nI c) (nI m) (nI s) st ax oc op nu hs nt wt CO CT LR LV RR RV ld cf ce be KR KV rg la := by
    intro d
    induction d with
    | zero =>
      intro r c s CO CT LR LV RR RV KR KV hr B hp
      rcases hp with hp | hp
      · rw [sc_mu_0 hp] at B
        exact br_t (nI_le (a := 18) (by omega) (by omega)) (k c s CO CT LR LV RR RV KR KV B hp)
      · omega
    | succ d ih =>
      intro r c s CO CT LR LV RR RV KR KV hr B hp
      obtain ⟨⟨b1, b2, b3, b4, b5, b6⟩, b7, b8, b9, b10⟩ := id B
      refine br_f (nI_ge (b := 18) (by omega) (by omega)) ⟨m + 1, sc_xf15 hm (fun a ha hn => ?_) (fun a ha => sc_kr_b (by omega) (b7 a ha)) (fun hd => ?_) (fun q hq hn hf => ?_) (fun q a hq ha hn hne he => ?_) m 0 (-1) (-1) (by omega) (Or.inl ⟨rfl, rfl, fun k hk => by omega⟩)⟩
      · have := sc_mu_p ha hn
        omega
      · exact ih (r + 1) c s CO CT LR LV RR RV KR KV (by omega) B (Or.inl hd)
      · have u := sc_mu_u (KR := KR) (a := q) (m := m) (x := nI (4 + q)) hq
        rw [sc_wk_0] at u
        have w := sc_wk_p hn
        refine ih (r + 1) (c + 1) s (upd CO c 14) (upd CT c (nI (4 + q))) (upd LR c (KR q)) (upd LV c (KV q)) (upd RR c (KR q)) (upd RV c (KV q)) (upd KR q (nI (4 + q))) KV (by omega) ?_ (hp.elim (fun z => absurd (z q hq) hn) (fun z => Or.inr (by omega)))
        rw [sc_kz_u]
        exact sc_BC_mv B (4 + q) q s _ (by omega) (by omega) hq (by omega) (by omega) (by omega) hf
      · have u := sc_mu_u (KR := KR) (a := a) (m := m) (x := nI s) ha
        rw [he, sc_wk_2 a (by omega) q (by omega) hne, sc_wk_1 a (by omega) s (by omega) b3] at u
        refine ih (r + 1) (c + 1) (s + 1) (upd CO c 14) (upd CT c (nI s)) (upd LR c (KR a)) (upd LV c (KV a)) (upd RR c (KR a)) (upd RV c (KV a)) (upd KR a (nI s)) KV (by omega) ?_ (hp.elim (fun z => absurd (z q hq) hn) (fun z => Or.inr (by omega)))
        rw [sc_kz_u]
        exact sc_BC_mv B s a (s + 1) _ (by omega) (by omega) ha (by omega) (by omega) (by omega) (fun k hk _ => sc_BC_fr B hk)
  exact ⟨19, key 18 0 c s CO CT LR LV RR RV KR KV rfl B (Or.inr (sc_mu_12 hm))⟩
end
end
section
/-! X: compileBlock, compile -/
/-- the code f .. c does what the stack code p .. e does, from height h -/
def sc_Se (o : Nat → Nat) (nu : Nat → Int32) (K : Nat → sc_Ce) (p h f c e : Nat) : Prop := ∀ g a, sc_Mi h g a → sc_Mi (sc_hr o p h (e - p)) (sc_xr K f (c - f) (g, a.2.2)).1 (sc_ar o nu p h (e - p) a) ∧ (sc_xr K f (c - f) (g, a.2.2)).2 = (sc_ar o nu p h (e - p) a).2.2
def sc_En (o : Nat → Nat) (ld : Nat → Int32) (N p e : Nat) : Prop := p ≤ e ∧ e < N ∧ (∀ q, p ≤ q → q < e → o q < 11) ∧ (11 ≤ o e ∨ (¬ ld e = 0 ∧ p < e))
def sc_BK (N : Nat) (o : Nat → Nat) (nu ld : Nat → Int32) (K : Nat → sc_Ce) (C p h : Nat) (cf ce be : Int32) : Prop := ∃ f c e, cf = nI f ∧ ce = nI c ∧ be = nI e ∧ f ≤ c ∧ c ≤ C ∧ sc_En o ld N p e ∧ sc_Se o nu K p h f c e
theorem sc_BK_m {N : Nat} {o : Nat → Nat} {nu ld : Nat → Int32} {K K' : Nat → sc_Ce} {C C' p h : Nat} {cf ce be : Int32} (hC : C ≤ C') (hK : ∀ i, i < C → K' i = K i) (B : sc_BK N o nu ld K C p h cf ce be) : sc_BK N o nu ld K' C' p h cf ce be := by
  obtain ⟨f, c, e, e1, e2, e3, h1, h2, h3, h4⟩ := B
  refine ⟨f, c, e, e1, e2, e3, h1, by omega, h3, fun g a hm => ?_⟩
  rw [sc_xr_c (K := K') (K' := K) (fun i hi => hK i (by omega))]
  exact h4 g a hm
theorem sc_Mt_Mi {m : Nat} {KR KV : Nat → Int32} {s : sc_Rm} {b : sc_Ab} (hm : m ≤ 6) (h : ∀ k, k < m → KR k = nI (4 + k)) (M : sc_Mt m KR KV s b) : sc_Mi m s.1 b ∧ s.2 = b.2.2 := by
  obtain ⟨m1, m2, m3⟩ := M
  refine ⟨⟨m1, fun k hk => ?_⟩, m3⟩
  have := m2 k hk
  rw [h k hk, sc_vl_r (by omega)] at this
  exact this
theorem sc_BC_0 {K : Nat → sc_Ce} {f h0 : Nat} {KR KV : Nat → Int32} (hf : f ≤ 256) (h6 : h0 ≤ 6) (hk : ∀ k, k < h0 → KR k = nI (4 + k)) (ck : ∀ i, i < f → sc_ck (K i)) : sc_BC K f (f + 0) (10 + 0) h0 (fun a => a) (sc_nl KR h0) K f h0 10 KR KV := by
  have e : sc_nl KR h0 = 0 := by
    have e : sc_nl KR h0 = sc_sm (fun _ => 0) h0 := sc_sm_c fun k hk' => by rw [hk k hk', sc_il_g (4 + k) (by omega) (by omega)]
    have := sc_sm_le (f := fun _ => 0) (c := 0) (fun _ => Nat.le_refl _) h0
    omega
  refine ⟨⟨by omega, by omega, by omega, by omega, by omega, by omega⟩, fun k hk' => Or.inr ⟨4 + k, by omega, hk k hk'⟩, ck, fun _ _ => rfl, fun g a hm => ?_⟩
  rw [Nat.sub_self]
  simp only [sc_xr]
  refine ⟨hm.1, fun k hk' => ?_, rfl⟩
  rw [hk k hk', sc_vl_r (by omega)]
  exact hm.2 k hk'
section
variable {sz jd cd cs kn sp st ax oc : Int32} {op nu hs nt wt CO CT LR LV RR RV ld cf ce be KR KV rg la : Nat → Int32}
variable {N : Nat} {o : Nat → Nat} {K0 : Nat → sc_Ce}
theorem sc_xcb116 {post : SX → Prop} {p j h f c s : Nat} (hN : N ≤ 20) (hp : p + j < N) (h6 : sc_hr o p h j ≤ 6) (hf : f ≤ 13 * p) (hj : j = 0 → ∀ k, k < h → KR k = nI (4 + k))
    (B : sc_BC K0 f (f + j) (10 + j) h (sc_ar o nu p h j) (sc_nl KR (sc_hr o p h j)) (sc_kz CO CT LR LV RR RV) c (sc_hr o p h j) s KR KV)
    (k : ∀ (c : Nat) (kn sp : Int32) (CO CT LR LV RR RV KR KV : Nat → Int32), f ≤ c → c ≤ 13 * (p + j) → (∀ i, i < c → sc_ck (sc_kz CO CT LR LV RR RV i)) → (∀ i, i < f → sc_kz CO CT LR LV RR RV i = K0 i) → sc_Se o nu (sc_kz CO CT LR LV RR RV) p h f c (p + j) → post (nI N, jd, cd, nI c, kn, sp, st, ax, oc, op, nu, hs, nt, wt, CO, CT, LR, LV, RR, RV, ld, cf, upd ce p (nI c), upd be p (nI (p + j)), KR, KV, rg, la)) :
    wX_compileBlock_116 post (nI p) (nI (p + j)) (nI N) jd cd (nI c) (nI (sc_hr o p h j)) (nI s) st ax oc op nu hs nt wt CO CT LR LV RR RV ld cf ce be KR KV rg la := by
  obtain ⟨⟨b1, b2, b3, b4, b5, b6⟩, b7, b8, b9, b10⟩ := id B
  have mu12 := sc_mu_12 (KR := KR) h6
  have mu0 : c + sc_mu KR (sc_hr o p h j) ≤ f + 13 * j := by
    by_cases z : j = 0
    · subst z
      have z0 : sc_mu KR (sc_hr o p h 0) = 0 := sc_mu_0 (hj rfl)
      omega
    · omega
  have B' : sc_BC K0 f (f + 13 * j) (10 + j + 12) h (sc_ar o nu p h j) (sc_mu KR (sc_hr o p h j)) (sc_kz CO CT LR LV RR RV) c (sc_hr o p h j) s KR KV := ⟨⟨b1, mu0, b3, by omega, by omega, by omega⟩, b7, b8, b9, b10⟩
  refine sc_xflush h6 B' (fun c s CO CT LR LV RR RV KR KV B2 hd => ⟨vp_in_nI (by omega) (by omega), ?_⟩)
  obtain ⟨⟨d1, d2, d3, d4, d5, d6⟩, d7, d8, d9, d10⟩ := B2
  rw [nI_clamp (by omega), sc_short2 (by omega), sc_byte2 (by omega)]
  refine nm_e ⟨vp_in_nI (by omega) (by omega), nm_e (k c _ _ CO CT LR LV RR RV KR KV d1 (by omega) d8 d9 (fun g a hm => ?_))⟩
  rw [show p + j - p = j by omega]
  exact sc_Mt_Mi h6 hd (d10 g a hm)
theorem sc_xcb61 {post : SX → Prop} {p h f : Nat} (P : sc_PO N op o nu) (F : sc_Fit N o nu) (hr : sc_R N o nu p h) (hf : f ≤ 13 * p)
    (k : ∀ (c e : Nat) (kn sp : Int32) (CO CT LR LV RR RV KR KV : Nat → Int32), f ≤ c → c ≤ 13 * e → (∀ i, i < c → sc_ck (sc_kz CO CT LR LV RR RV i)) → (∀ i, i < f → sc_kz CO CT LR LV RR RV i = K0 i) → sc_En o ld N p e → (∀ q, p < q → q < e → ld q = 0) → sc_Se o nu (sc_kz CO CT LR LV RR RV) p h f c e → post (nI N, jd, cd, nI c, kn, sp, st, ax, oc, op, nu, hs, nt, wt, CO, CT, LR, LV, RR, RV, ld, cf, upd ce p (nI c), upd be p (nI e), KR, KV, rg, la)) :
    ∀ (d j c s : Nat) (CO CT LR LV RR RV KR KV : Nat → Int32), p + j + d = N → sc_R N o nu (p + j) (sc_hr o p h j) → (∀ q, p ≤ q → q < p + j → o q < 11) → (∀ q, p < q → q < p + j → ld q = 0) → (j = 0 → ∀ k, k < h → KR k = nI (4 + k)) →
      sc_BC K0 f (f + j) (10 + j) h (sc_ar o nu p h j) (sc_nl KR (sc_hr o p h j)) (sc_kz CO CT LR LV RR RV) c (sc_hr o p h j) s KR KV → wX_compileBlock_61 post (nI p) (d + 1) (nI (p + j)) (nI N) jd cd (nI c) (nI (sc_hr o p h j)) (nI s) st ax oc op nu hs nt wt CO CT LR LV RR RV ld cf ce be KR KV rg la := by
  have hN := P.1
  intro d
  induction d with
  | zero =>
    intro j c s CO CT LR LV RR RV KR KV hd hr'
    have := (sc_R_lt hr').1
    omega
  | succ d ih =>
    intro j c s CO CT LR LV RR RV KR KV hd hr' ho hl hj B
    obtain ⟨eo, ho13, hl4⟩ := P.2 (p + j)
    have h7 := (sc_R_lt hr').2
    have cl : (nI (p + j)).toNatClampNeg = p + j := nI_clamp (by omega)
    have v20 : vp_in (nI (p + j)) 20 := vp_in_nI (by omega) (by omega)
    have K116 : (11 ≤ o (p + j) ∨ (¬ ld (p + j) = 0 ∧ p < p + j)) → wX_compileBlock_116 post (nI p) (nI (p + j)) (nI N) jd cd (nI c) (nI (sc_hr o p h j)) (nI s) st ax oc op nu hs nt wt CO CT LR LV RR RV ld cf ce be KR KV rg la := fun he =>
      sc_xcb116 hN (by omega) (by omega) hf hj B (fun c kn sp CO CT LR LV RR RV KR KV q1 q2 q3 q4 q5 => k c (p + j) kn sp CO CT LR LV RR RV KR KV q1 q2 q3 q4 ⟨by omega, by omega, ho, he⟩ hl q5)
    have K94 : o (p + j) < 11 → (j = 0 ∨ ld (p + j) = 0) → wX_compileBlock_94 post (wX_compileBlock_61 post (nI p) (d + 1)) (nI p) (nI (p + j)) (nI N) jd cd (nI c) (nI (sc_hr o p h j)) (nI s) st ax oc op nu hs nt wt CO CT LR LV RR RV ld cf ce be KR KV rg la := by
      intro hlt hld
      obtain ⟨n1, n2⟩ := sc_fit_n F hr' (by omega)
      have hcan := (sc_fit_can F hr').1
      unfold wX_compileBlock_94
      rw [cl, eo]
      refine ⟨v20, v20, sc_xtranslate h7 hlt hcan hl4 (by omega) (by omega) B (fun c s CO CT LR LV RR RV KR KV B' => nm_r (nI_1 (p + j)) ?_)⟩
      refine ih (j + 1) c s CO CT LR LV RR RV KR KV (by omega) n2 (fun q q1 q2 => ?_) (fun q q1 q2 => ?_) (fun z => by omega) B'
      · by_cases z : q = p + j
        · subst z; exact hlt
        · exact ho q q1 (by omega)
      · by_cases z : q = p + j
        · subst z
          exact hld.elim (fun w => by omega) id
        · exact hl q q1 (by omega)
    refine br_f (nI_ge (by omega) (by omega)) ⟨v20, ?_⟩
    rw [cl, eo]
    refine pk_le 11 (o (p + j)) (fun z => K116 (Or.inl z)) (fun z => pk_eq (p + j) p (fun y => K94 z (Or.inl (by omega))) (fun y => ⟨vp_in_nI (by omega) (by omega), ?_⟩))
    by_cases w : ld (p + j) = 0
    · exact br_t w (K94 z (Or.inr w))
    · exact br_f w (K116 (Or.inr ⟨w, by omega⟩))
theorem sc_xcb28 {post : SX → Prop} {p h f : Nat} (P : sc_PO N op o nu) (F : sc_Fit N o nu) (hr : sc_R N o nu p h) (hf : f ≤ 13 * p) (ck : ∀ i, i < f → sc_ck (sc_kz CO CT LR LV RR RV i))
    (k : ∀ (c e : Nat) (kn sp : Int32) (CO' CT' LR' LV' RR' RV' KR KV : Nat → Int32), f ≤ c → c ≤ 13 * e → (∀ i, i < c → sc_ck (sc_kz CO' CT' LR' LV' RR' RV' i)) → (∀ i, i < f → sc_kz CO' CT' LR' LV' RR' RV' i = sc_kz CO CT LR LV RR RV i) → sc_En o ld N p e → (∀ q, p < q → q < e → ld q = 0) → sc_Se o nu (sc_kz CO' CT' LR' LV' RR' RV') p h f c e → post (nI N, jd, cd, nI c, kn, sp, st, ax, oc, op, nu, hs, nt, wt, CO', CT', LR', LV', RR', RV', ld, cf, upd ce p (nI c), upd be p (nI e), KR, KV, rg, la)) :
    ∀ (d i : Nat) (KR KV : Nat → Int32), i + d = h → (∀ k, k < i → KR k = nI (4 + k)) → wX_compileBlock_28 post (nI p) (nI N) jd cd (nI f) (nI h) 10 st ax oc (d + 1) (nI i) op nu hs nt wt CO CT LR LV RR RV ld cf ce be KR KV rg la := by
  have hN := P.1
  obtain ⟨hp, h7⟩ := sc_R_lt hr
  intro d
  induction d with
  | zero =>
    intro i KR KV hi hk
    have e : i = h := by omega
    subst e
    refine br_t (nI_le (Nat.le_refl _) (by omega)) ⟨N - p + 1, ?_⟩
    exact sc_xcb61 (K0 := sc_kz CO CT LR LV RR RV) P F hr hf k (N - p) 0 f 10 CO CT LR LV RR RV KR KV (by omega) hr (fun q q1 q2 => by omega) (fun q q1 q2 => by omega) (fun _ => hk) (sc_BC_0 (by omega) (by omega) hk ck)
  | succ d ih =>
    intro i KR KV hi hk
    have e4 : (4 : Int32) + nI i = nI (4 + i) := nI_add 4 i
    refine br_f (nI_ge (by omega) (by omega)) ⟨vp_in_nI (by omega) (by omega), ?_⟩
    rw [nI_clamp (by omega), e4, sc_byte2 (by omega)]
    refine nm_e ⟨vp_in_nI (by omega) (by omega), nm_e (nm_r (nI_1 i) (ih (i + 1) _ _ (by omega) (lt_s (fun j hj => ?_) pk_us)))⟩
    rw [pk_un (by omega)]; exact hk j hj
theorem sc_xcb {post : SX → Prop} {p h f : Nat} (P : sc_PO N op o nu) (F : sc_Fit N o nu) (H : sc_HS hs (sc_R N o nu)) (hr : sc_R N o nu p h) (hf : f ≤ 13 * p) (ck : ∀ i, i < f → sc_ck (sc_kz CO CT LR LV RR RV i))
    (k : ∀ (c e : Nat) (kn sp : Int32) (CO' CT' LR' LV' RR' RV' KR KV : Nat → Int32), f ≤ c → c ≤ 13 * e → (∀ i, i < c → sc_ck (sc_kz CO' CT' LR' LV' RR' RV' i)) → (∀ i, i < f → sc_kz CO' CT' LR' LV' RR' RV' i = sc_kz CO CT LR LV RR RV i) → sc_En o ld N p e → (∀ q, p < q → q < e → ld q = 0) → sc_Se o nu (sc_kz CO' CT' LR' LV' RR' RV') p h f c e → post (nI N, jd, cd, nI c, kn, sp, st, ax, oc, op, nu, hs, nt, wt, CO', CT', LR', LV', RR', RV', ld, upd cf p (nI f), upd ce p (nI c), upd be p (nI e), KR, KV, rg, la)) :
    wpX_compileBlock post (nI N, jd, cd, nI f, kn, sp, st, ax, oc, op, nu, hs, nt, wt, CO, CT, LR, LV, RR, RV, ld, cf, ce, be, KR, KV, rg, la) (nI p) := by
  have hN := P.1
  obtain ⟨hp, h7⟩ := sc_R_lt hr
  unfold wpX_compileBlock
  dsimp only
  rw [nI_clamp (by omega), sc_short2 (by omega)]
  refine ⟨vp_in_nI (by omega) (by omega), nm_e (sc_xheightAt H F hN hr ⟨h + 1, ?_⟩)⟩
  exact sc_xcb28 P F hr hf ck k h 0 KR KV (by omega) (fun k hk => by omega)
def sc_LD (N : Nat) (o : Nat → Nat) (nu ld : Nat → Int32) (i : Nat) : Prop := ¬ ld 0 = 0 ∧ ∀ q h, q < i → sc_R N o nu q h → (o q = 11 ∨ o q = 12) → ¬ ld (q + 1) = 0 ∧ ∀ t, t < N → nu q = nI t → ¬ ld t = 0
def sc_CP (N : Nat) (o : Nat → Nat) (nu ld cf ce be : Nat → Int32) (K : Nat → sc_Ce) : Prop := sc_LD N o nu ld N ∧ ∃ C, C ≤ 256 ∧ (∀ i, i < C → sc_ck (K i)) ∧ ∀ p h, ¬ ld p = 0 → sc_R N o nu p h → sc_BK N o nu ld K C p h (cf p) (ce p) (be p)
theorem sc_xc117 {post : SX → Prop} (P : sc_PO N op o nu) (F : sc_Fit N o nu) (H : sc_HS hs (sc_R N o nu)) (L : sc_LD N o nu ld N)
    (k : ∀ (cs kn sp : Int32) (CO CT LR LV RR RV cf ce be KR KV : Nat → Int32), sc_CP N o nu ld cf ce be (sc_kz CO CT LR LV RR RV) → post (nI N, jd, cd, cs, kn, sp, st, ax, oc, op, nu, hs, nt, wt, CO, CT, LR, LV, RR, RV, ld, cf, ce, be, KR, KV, rg, la)) :
    ∀ (d i c : Nat) (kn sp : Int32) (CO CT LR LV RR RV cf ce be KR KV : Nat → Int32), i + d = N → c ≤ 247 → (∀ i, i < c → sc_ck (sc_kz CO CT LR LV RR RV i)) → (∀ q h, i ≤ q → ¬ ld q = 0 → sc_R N o nu q h → c ≤ 13 * q) → (∀ q h, q < i → ¬ ld q = 0 → sc_R N o nu q h → sc_BK N o nu ld (sc_kz CO CT LR LV RR RV) c q h (cf q) (ce q) (be q)) → wX_compile_117 post (d + 1) (nI i) (nI N) jd cd (nI c) kn sp st ax oc op nu hs nt wt CO CT LR LV RR RV ld cf ce be KR KV rg la := by
  have hN := P.1
  intro d
  induction d with
  | zero =>
    intro i c kn sp CO CT LR LV RR RV cf ce be KR KV hi hc ck hq hb
    exact br_t (nI_le (by omega) (by omega)) (k _ kn sp CO CT LR LV RR RV cf ce be KR KV ⟨L, c, by omega, ck, fun p h hl hr => hb p h (by have := (sc_R_lt hr).1; omega) hl hr⟩)
  | succ d ih =>
    intro i c kn sp CO CT LR LV RR RV cf ce be KR KV hi hc ck hq hb
    refine br_f (nI_ge (by omega) (by omega)) ⟨vp_in_nI (by omega) (by omega), ?_⟩
    rw [nI_clamp (by omega)]
    have skip : (∀ h, ¬ ld i = 0 → sc_R N o nu i h → False) → wX_compile_117 post (d + 1) (nI (i + 1)) (nI N) jd cd (nI c) kn sp st ax oc op nu hs nt wt CO CT LR LV RR RV ld cf ce be KR KV rg la := fun hno =>
      ih (i + 1) c kn sp CO CT LR LV RR RV cf ce be KR KV (by omega) hc ck (fun q h q1 => hq q h (by omega)) (fun q h q1 hl hr => by
        by_cases z : q = i
        · subst z; exact (hno h hl hr).elim
        · exact hb q h (by omega) hl hr)
    by_cases z : ld i = 0
    · exact br_t z (nm_r (nI_1 i) (skip fun h w _ => w z))
    · refine br_f z ⟨vp_in_nI (by omega) (by omega), ?_⟩
      by_cases y : hs i = 0
      · exact br_t y (nm_r (nI_1 i) (skip fun h _ w => (sc_HS_ne H (p := i) (by omega)).mpr ⟨h, (sc_R_lt w).2, w⟩ y))
      · obtain ⟨h, h7, hr⟩ := (sc_HS_ne H (p := i) (by omega)).mp y
        refine br_f y (sc_xcb P F H hr (hq i h (Nat.le_refl _) z hr) ck (fun c' e kn sp CO' CT' LR' LV' RR' RV' KR KV r1 r2 r3 r4 r5 r6 r7 => nm_r (nI_1 i) ?_))
        obtain ⟨t1, t2, t3, t4⟩ := id r5
        refine ih (i + 1) c' kn sp CO' CT' LR' LV' RR' RV' _ _ _ KR KV (by omega) (by omega) r3 (fun q h' q1 q2 q3 => ?_) (fun q h' q1 q2 q3 => ?_)
        · have : e ≤ q := by
            rcases Nat.lt_or_ge q e with w | w
            · exact absurd (r6 q (by omega) w) q2
            · exact w
          omega
        · by_cases w : q = i
          · subst w
            rw [pk_us, pk_us, pk_us]
            have e' := sc_fit_u F hr q3
            subst e'
            exact ⟨c, c', e, rfl, rfl, rfl, r1, Nat.le_refl _, r5, r7⟩
          · rw [pk_un w, pk_un w, pk_un w]
            exact sc_BK_m r1 r4 (hb q h' (by omega) q2 q3)
theorem sc_xc49 {post : SX → Prop} (P : sc_PO N op o nu) (F : sc_Fit N o nu) (H : sc_HS hs (sc_R N o nu))
    (k : ∀ (cs kn sp : Int32) (CO CT LR LV RR RV ld cf ce be KR KV : Nat → Int32), sc_CP N o nu ld cf ce be (sc_kz CO CT LR LV RR RV) → post (nI N, jd, cd, cs, kn, sp, st, ax, oc, op, nu, hs, nt, wt, CO, CT, LR, LV, RR, RV, ld, cf, ce, be, KR, KV, rg, la)) :
    ∀ (d i : Nat) (ld : Nat → Int32), i + d = N → sc_LD N o nu ld i → wX_compile_49 post (nI N) jd cd 0 kn sp st ax oc (d + 1) (nI i) op nu hs nt wt CO CT LR LV RR RV ld cf ce be KR KV rg la := by
  have hN := P.1
  intro d
  induction d with
  | zero =>
    intro i ld hi L
    have e : i = N := by omega
    subst e
    exact br_t (nI_le (Nat.le_refl _) (by omega)) ⟨i + 1, sc_xc117 P F H L (fun cs kn sp CO CT LR LV RR RV cf ce be KR KV C => k cs kn sp CO CT LR LV RR RV ld cf ce be KR KV C) i 0 0 kn sp CO CT LR LV RR RV cf ce be KR KV (by omega) (by omega) (fun i hi => by omega) (fun q h _ _ _ => by omega) (fun q h hq => by omega)⟩
  | succ d ih =>
    intro i ld hi L
    obtain ⟨eo, ho13, -⟩ := P.2 i
    have v20 : vp_in (nI i) 20 := vp_in_nI (by omega) (by omega)
    have cl : (nI i).toNatClampNeg = i := nI_clamp (by omega)
    have skip : (∀ h, sc_R N o nu i h → (o i = 11 ∨ o i = 12) → False) → wX_compile_49 post (nI N) jd cd 0 kn sp st ax oc (d + 1) (nI (i + 1)) op nu hs nt wt CO CT LR LV RR RV ld cf ce be KR KV rg la := fun hno =>
      ih (i + 1) ld (by omega) ⟨L.1, fun q h hq hr ho => by
        by_cases z : q = i
        · subst z; exact (hno h hr ho).elim
        · exact L.2 q h (by omega) hr ho⟩
    refine br_f (nI_ge (by omega) (by omega)) ⟨v20, ?_⟩
    rw [cl, eo]
    by_cases y : hs i = 0
    · exact br_t y (nm_r (nI_1 i) (skip fun h w _ => (sc_HS_ne H (p := i) (by omega)).mpr ⟨h, (sc_R_lt w).2, w⟩ y))
    · obtain ⟨h, h7, hr⟩ := (sc_HS_ne H (p := i) (by omega)).mp y
      have K88 : (o i = 11 ∨ o i = 12) → wX_compile_88 post (wX_compile_49 post (nI N) jd cd 0 kn sp st ax oc (d + 1)) (nI i) (nI N) jd cd 0 kn sp st ax oc op nu hs nt wt CO CT LR LV RR RV ld cf ce be KR KV rg la := by
        intro hj
        obtain ⟨q, hq, eq, -⟩ := sc_fit_j hN F hr hj
        have e1 := nI_1 i
        unfold wX_compile_88
        rw [cl, eq, nI_clamp (n := q) (by omega), sc_nar1, e1, nI_clamp (n := i + 1) (by omega)]
        refine ⟨v20, vp_in_nI (by omega) (by omega), nm_e ⟨vp_in_nI (by omega) (by omega), nm_e (nm_e (ih (i + 1) _ (by omega) ?_))⟩⟩
        have mono : ∀ t, ¬ ld t = 0 → ¬ upd (upd ld q 1) (i + 1) 1 t = 0 := by
          intro t ht
          by_cases z1 : t = i + 1
          · rw [z1, pk_us]; decide
          · rw [pk_un z1]
            by_cases z2 : t = q
            · rw [z2, pk_us]; decide
            · rw [pk_un z2]; exact ht
        have hq1 : ¬ upd (upd ld q 1) (i + 1) 1 q = 0 := by
          by_cases z1 : q = i + 1
          · rw [z1, pk_us]; decide
          · rw [pk_un z1, pk_us]; decide
        have hi1 : ¬ upd (upd ld q 1) (i + 1) 1 (i + 1) = 0 := by rw [pk_us]; decide
        refine ⟨mono 0 L.1, fun q' h' hq' hr' ho' => ?_⟩
        by_cases z : q' = i
        · subst z
          refine ⟨hi1, fun t ht et => ?_⟩
          rw [eq] at et
          have : q = t := (nI_eq (by omega) (by omega)).mp et
          subst this
          exact hq1
        · obtain ⟨l1, l2⟩ := L.2 q' h' (by omega) hr' ho'
          exact ⟨mono _ l1, fun t ht et => mono t (l2 t ht et)⟩
      refine br_f y ⟨v20, pk_eq (o i) 11 (fun z => K88 (Or.inl z)) (fun z => ⟨v20, pk_eq (o i) 12 (fun z => K88 (Or.inr z)) (fun z' => nm_r (nI_1 i) (skip fun h _ w => by omega))⟩)⟩
theorem sc_xcompile {post : SX → Prop} (P : sc_PO N op o nu) (F : sc_Fit N o nu) (H : sc_HS hs (sc_R N o nu)) (hc : cd = 0 ∨ (cd = 1 ∧ sc_CP N o nu ld cf ce be (sc_kz CO CT LR LV RR RV)))
    (k : ∀ (cs kn sp : Int32) (CO CT LR LV RR RV ld cf ce be KR KV : Nat → Int32), sc_CP N o nu ld cf ce be (sc_kz CO CT LR LV RR RV) → post (nI N, jd, 1, cs, kn, sp, st, ax, oc, op, nu, hs, nt, wt, CO, CT, LR, LV, RR, RV, ld, cf, ce, be, KR, KV, rg, la)) : wpX_compile post (nI N, jd, cd, cs, kn, sp, st, ax, oc, op, nu, hs, nt, wt, CO, CT, LR, LV, RR, RV, ld, cf, ce, be, KR, KV, rg, la) := by
  rcases hc with rfl | ⟨rfl, C⟩
  · have key : ∀ (d i : Nat) (ld : Nat → Int32), i + d = 21 → (0 < i → ¬ ld 0 = 0) → wX_compile_20 post (nI N) jd 1 0 kn sp st ax oc (d + 1) (nI i) op nu hs nt wt CO CT LR LV RR RV ld cf ce be KR KV rg la := by
      intro d
      induction d with
      | zero => intro i ld hi hl; exact br_t (nI_lt (a := 20) (by omega) (by omega)) ⟨N + 1, sc_xc49 P F H k N 0 ld (by omega) ⟨hl (by omega), fun q h hq => by omega⟩⟩
      | succ d ih =>
        intro i ld hi hl
        have v21 : vp_in (nI i) 21 := vp_in_nI (by omega) (by omega)
        refine br_f (nI_nlt (a := 20) (by omega) (by omega)) ?_
        rw [nI_clamp (by omega), sc_nar0, sc_nar1]
        refine pk_eq i 0 (fun z => ⟨v21, nm_e (nm_r (nI_1 i) (ih (i + 1) _ (by omega) (fun _ => ?_)))⟩) (fun z => ⟨v21, nm_e (nm_r (nI_1 i) (ih (i + 1) _ (by omega) (fun _ => ?_)))⟩)
        · rw [z, pk_us]; decide
        · rw [pk_un (by omega)]; exact hl (by omega)
    exact br_t rfl ⟨22, key 21 0 ld rfl (fun z => by omega)⟩
  · exact br_f (by decide) (k cs kn sp CO CT LR LV RR RV ld cf ce be KR KV C)
end
end
section
/-! X: putOut, carryOut, taken -/
section
variable {sz jd cd cs kn sp st ax oc : Int32} {op nu hs nt wt CO CT LR LV RR RV ld cf ce be KR KV rg la : Nat → Int32}
variable {N : Nat} {o : Nat → Nat}
theorem sc_xputOut {post : SX → Prop} {x : Int32} (k : post (sz, jd, cd, cs, kn, sp, st, ax, oc + 1, op, nu, hs, nt, wt, CO, CT, LR, LV, RR, RV, ld, cf, ce, be, KR, KV, rg, sc_sh la x)) : wpX_putOut post (sz, jd, cd, cs, kn, sp, st, ax, oc, op, nu, hs, nt, wt, CO, CT, LR, LV, RR, RV, ld, cf, ce, be, KR, KV, rg, la) x := by
  have key : ∀ (i : Nat) (la : Nat → Int32), i < 8 → post (sz, jd, cd, cs, kn, sp, st, ax, oc + 1, op, nu, hs, nt, wt, CO, CT, LR, LV, RR, RV, ld, cf, ce, be, KR, KV, rg, upd (sc_shf i la) 0 x) → wX_putOut_3 post x sz jd cd cs kn sp st ax oc (i + 1) (nI i) op nu hs nt wt CO CT LR LV RR RV ld cf ce be KR KV rg la := by
    intro i
    induction i with
    | zero => intro la _ k; exact br_t (by decide) (nm_e (nm_e k))
    | succ i ih =>
      intro la hi k
      refine br_f (nI_nle (by omega) (by omega)) ?_
      rw [nI_pred, nI_clamp (n := i) (by omega), nI_clamp (n := i + 1) (by omega)]
      exact ⟨vp_in_nI (by omega) (by omega), vp_in_nI (by omega) (by omega), nm_e (nm_r (pk_m1 i) (ih _ (by omega) k))⟩
  exact ⟨8, key 7 la (by decide) k⟩
theorem sc_vl_t {s : Nat} {x v : Int32} {g : Nat → Int32} (hs : s ≤ 64) (H : sc_kr s x) {A : Int32 → Prop} (k : A (sc_vl x v g)) : (0 ≤ x → vp_in x 64 ∧ A (g x.toNatClampNeg)) ∧ (¬ 0 ≤ x → A v) := by
  rcases H with rfl | ⟨r, hr, rfl⟩
  · rw [sc_vl_n] at k
    exact br_f (by decide) k
  · rw [sc_vl_r (by omega)] at k
    refine br_t (nI_pos' (by omega)) ⟨vp_in_nI (by omega) (by omega), ?_⟩
    rw [nI_clamp (by omega)]; exact k
theorem sc_xco79 {post : SX → Prop} {n c i : Nat} {m : sc_Rm} {l r : Int32} (hi : i < 256) {t : Nat} (ht : t < 64) (et : CT i = nI t) (el : l = sc_vl (LR i) (LV i) m.1) (er : r = sc_vl (RR i) (RV i) m.1)
    (k : ∀ m' : sc_Rm, m' = sc_x1 (sc_kz CO CT LR LV RR RV i) m → wX_carryOut_14 post (nI c) n (nI (i + 1)) sz jd cd cs kn sp st ax m'.2.2 op nu hs nt wt CO CT LR LV RR RV ld cf ce be KR KV m'.1 m'.2.1) :
    wX_carryOut_79 post (wX_carryOut_14 post (nI c) n) (nI c) (nI i) l r sz jd cd cs kn sp st ax m.2.2 op nu hs nt wt CO CT LR LV RR RV ld cf ce be KR KV m.1 m.2.1 := by
  have v : vp_in (nI i) 256 := vp_in_nI hi (by omega)
  have vt : vp_in (nI t) 64 := vp_in_nI ht (by omega)
  unfold wX_carryOut_79
  rw [nI_clamp (n := i) (by omega), et, nI_clamp (n := t) (by omega)]
  by_cases z : CO i = 10
  · refine ⟨v, br_t z (sc_xputOut (nm_r (nI_1 i) (k (m.1, sc_sh m.2.1 l, m.2.2 + 1) ?_)))⟩
    unfold sc_x1 sc_kz
    dsimp only
    rw [if_pos z, el]
  · by_cases y : CO i = 14
    · refine ⟨v, br_f z ⟨v, br_t y ⟨v, vt, nm_e (nm_r (nI_1 i) (k (upd m.1 t l, m.2) ?_))⟩⟩⟩
      unfold sc_x1 sc_kz
      dsimp only
      rw [if_neg z, if_pos y, et, nI_clamp (by omega), el]
    · refine ⟨v, br_f z ⟨v, br_f y ⟨v, v, sc_xresult ⟨vt, nm_e (nm_r (nI_1 i) (k (upd m.1 t (sc_rs (CO i) l r), m.2) ?_))⟩⟩⟩⟩
      unfold sc_x1 sc_kz
      dsimp only
      rw [if_neg z, if_neg y, et, nI_clamp (by omega), el, er]
theorem sc_xco14 {post : SX → Prop} {f c : Nat} {s0 : sc_Rm} (hc : c ≤ 256) (ck : ∀ i, i < c → sc_ck (sc_kz CO CT LR LV RR RV i)) (k : ∀ m : sc_Rm, m = sc_xr (sc_kz CO CT LR LV RR RV) f (c - f) s0 → post (sz, jd, cd, cs, kn, sp, st, ax, m.2.2, op, nu, hs, nt, wt, CO, CT, LR, LV, RR, RV, ld, cf, ce, be, KR, KV, m.1, m.2.1)) :
    ∀ (d j : Nat) (m : sc_Rm), f + j + d = c → m = sc_xr (sc_kz CO CT LR LV RR RV) f j s0 → wX_carryOut_14 post (nI c) (d + 1) (nI (f + j)) sz jd cd cs kn sp st ax m.2.2 op nu hs nt wt CO CT LR LV RR RV ld cf ce be KR KV m.1 m.2.1 := by
  intro d
  induction d with
  | zero =>
    intro j m hd hm
    have e : c = f + j := by omega
    subst e
    exact br_t (nI_le (Nat.le_refl _) (by omega)) (k m (by rw [show f + j - f = j by omega]; exact hm))
  | succ d ih =>
    intro j m hd hm
    obtain ⟨c1, c2, t, ht, et⟩ := ck (f + j) (by omega)
    have v : vp_in (nI (f + j)) 256 := vp_in_nI (by omega) (by omega)
    have cl : (nI (f + j)).toNatClampNeg = f + j := nI_clamp (by omega)
    have K79 := sc_xco79 (post := post) (n := d + 1) (c := c) (m := m) (l := sc_vl (LR (f + j)) (LV (f + j)) m.1) (r := sc_vl (RR (f + j)) (RV (f + j)) m.1) (show f + j < 256 by omega) ht et rfl rfl (fun m' hm' => ih (j + 1) m' (by omega) (by rw [hm', hm]; rfl))
    have K48 : wX_carryOut_48 post (wX_carryOut_14 post (nI c) (d + 1)) (nI c) (nI (f + j)) (sc_vl (LR (f + j)) (LV (f + j)) m.1) sz jd cd cs kn sp st ax m.2.2 op nu hs nt wt CO CT LR LV RR RV ld cf ce be KR KV m.1 m.2.1 := by
      unfold wX_carryOut_48
      rw [cl]
      refine ⟨v, ?_⟩
      have q := sc_vl_t (v := RV (f + j)) (g := m.1) (Nat.le_refl 64) c2 (A := fun r => wX_carryOut_79 post (wX_carryOut_14 post (nI c) (d + 1)) (nI c) (nI (f + j)) (sc_vl (LR (f + j)) (LV (f + j)) m.1) r sz jd cd cs kn sp st ax m.2.2 op nu hs nt wt CO CT LR LV RR RV ld cf ce be KR KV m.1 m.2.1) K79
      exact ⟨fun z => ⟨v, q.1 z⟩, fun z => ⟨v, q.2 z⟩⟩
    refine br_f (nI_ge (by omega) (by omega)) ⟨v, ?_⟩
    rw [cl]
    have q := sc_vl_t (v := LV (f + j)) (g := m.1) (Nat.le_refl 64) c1 (A := fun r => wX_carryOut_48 post (wX_carryOut_14 post (nI c) (d + 1)) (nI c) (nI (f + j)) r sz jd cd cs kn sp st ax m.2.2 op nu hs nt wt CO CT LR LV RR RV ld cf ce be KR KV m.1 m.2.1) K48
    exact ⟨fun z => ⟨v, q.1 z⟩, fun z => ⟨v, q.2 z⟩⟩
theorem sc_xcarry {post : SX → Prop} {C p h f c e : Nat} {a : sc_Ab} (hN : N ≤ 20) (hp : p < N) (hC : C ≤ 256) (ck : ∀ i, i < C → sc_ck (sc_kz CO CT LR LV RR RV i)) (e1 : cf p = nI f) (e2 : ce p = nI c) (h1 : f ≤ c) (h2 : c ≤ C) (h4 : sc_Se o nu (sc_kz CO CT LR LV RR RV) p h f c e) (M : sc_Mi h rg a)
    (k : ∀ rg' : Nat → Int32, sc_Mi (sc_hr o p h (e - p)) rg' (sc_ar o nu p h (e - p) a) → post (sz, jd, cd, cs, kn, sp, st, ax, (sc_ar o nu p h (e - p) a).2.2.2, op, nu, hs, nt, wt, CO, CT, LR, LV, RR, RV, ld, cf, ce, be, KR, KV, rg', (sc_ar o nu p h (e - p) a).2.2.1)) : wpX_carryOut post (sz, jd, cd, cs, kn, sp, st, ax, a.2.2.2, op, nu, hs, nt, wt, CO, CT, LR, LV, RR, RV, ld, cf, ce, be, KR, KV, rg, a.2.2.1) (nI p) := by
  obtain ⟨q1, q2⟩ := h4 rg a M
  have v : vp_in (nI p) 20 := vp_in_nI (by omega) (by omega)
  unfold wpX_carryOut
  dsimp only
  rw [nI_clamp (by omega), e1, e2]
  refine ⟨v, nm_e ⟨v, nm_e ⟨c - f + 1, ?_⟩⟩⟩
  refine sc_xco14 (f := f) (s0 := (rg, a.2.2)) (by omega) (fun i hi => ck i (by omega)) (fun m hm => ?_) (c - f) 0 (rg, a.2.2) (by omega) rfl
  have w := k m.1 (by rw [hm]; exact q1)
  rw [← q2, ← hm] at w
  exact w
theorem sc_xtaken {post : Int32 → Prop} {w e g : Nat} {b : sc_Ab} (hN : N ≤ 20) (F : sc_Fit N o nu) (H : sc_HS hs (sc_R N o nu)) (hr : sc_R N o nu e (g + 1)) (M : sc_Mi (g + 1) rg b) (hw : w = 11 ∨ w = 12) (k1 : (w = 12 ∨ b.1 g = 0) → post 1) (k0 : w = 11 → ¬ b.1 g = 0 → post 0) : wpX_taken post (sz, jd, cd, cs, kn, sp, st, nI e, oc, op, nu, hs, nt, wt, CO, CT, LR, LV, RR, RV, ld, cf, ce, be, KR, KV, rg, la) (nI w) := by
  have l := (sc_R_lt hr).2
  unfold wpX_taken
  dsimp only
  refine pk_eq w 12 (fun z => k1 (Or.inl z)) (fun z => sc_xheightAt H F hN hr ?_)
  have e4 : (4 : Int32) + nI (g + 1) - 1 = nI (4 + g) := by
    rw [show (4 : Int32) = nI 4 from rfl, nI_add]
    exact nI_pred (4 + g)
  rw [e4, nI_clamp (by omega), M.2 g (by omega)]
  refine ⟨vp_in_nI (by omega) (by omega), ?_⟩
  by_cases y : b.1 g = 0
  · exact br_t y (k1 (Or.inr y))
  · exact br_f y (k0 (by omega) y)
theorem sc_xround {post : Int32 → SX → Prop} {C p h f c e t n x h1 : Nat} {a b : sc_Ab} (P : sc_PO N op o nu) (F : sc_Fit N o nu) (H : sc_HS hs (sc_R N o nu)) (hx : x < 900) (ht : t ≤ 40) (hp : p < N) (he : e < N) (hC : C ≤ 256) (ck : ∀ i, i < C → sc_ck (sc_kz CO CT LR LV RR RV i)) (e1 : cf p = nI f) (e2 : ce p = nI c) (e3 : be p = nI e) (hfc : f ≤ c) (hcC : c ≤ C) (h4 : sc_Se o nu (sc_kz CO CT LR LV RR RV) p h f c e) (M : sc_Mi h rg a)
    (hb : b = sc_ar o nu p h (e - p) a) (hh : h1 = sc_hr o p h (e - p)) (hr : sc_R N o nu e h1)
    (k13 : o e = 13 → ∀ rg, sc_Mi h1 rg b → wX_run_66 post n (nI t) (nI p) (nI (x + 1)) (nI N) jd cd cs kn sp 1 (nI e) b.2.2.2 op nu hs nt wt CO CT LR LV RR RV ld cf ce be KR KV rg b.2.2.1)
    (k40 : (o e = 11 ∨ o e = 12) → t = 40 → ∀ rg, sc_Mi h1 rg b → wX_run_66 post n (nI t) (nI p) (nI (x + 1)) (nI N) jd cd cs kn sp 2 (nI e) b.2.2.2 op nu hs nt wt CO CT LR LV RR RV ld cf ce be KR KV rg b.2.2.1)
    (kj : (o e = 11 ∨ o e = 12) → t < 40 → (o e = 12 ∨ b.1 (h1 - 1) = 0) → ∀ rg, sc_Mi h1 rg b → wX_run_66 post n (nI (t + 1)) (nu e) (nI (x + 1)) (nI N) jd cd cs kn sp 0 (nI e) b.2.2.2 op nu hs nt wt CO CT LR LV RR RV ld cf ce be KR KV rg b.2.2.1)
    (kn0 : o e = 11 → t < 40 → ¬ b.1 (h1 - 1) = 0 → ∀ rg, sc_Mi h1 rg b → wX_run_66 post n (nI (t + 1)) (nI (e + 1)) (nI (x + 1)) (nI N) jd cd cs kn sp 0 (nI e) b.2.2.2 op nu hs nt wt CO CT LR LV RR RV ld cf ce be KR KV rg b.2.2.1)
    (kf : o e < 11 → ∀ rg, sc_Mi h1 rg b → wX_run_66 post n (nI t) (nI e) (nI (x + 1)) (nI N) jd cd cs kn sp 0 (nI e) b.2.2.2 op nu hs nt wt CO CT LR LV RR RV ld cf ce be KR KV rg b.2.2.1) :
    wX_run_66 post (n + 1) (nI t) (nI p) (nI x) (nI N) jd cd cs kn sp 0 ax a.2.2.2 op nu hs nt wt CO CT LR LV RR RV ld cf ce be KR KV rg a.2.2.1 := by
  have hN := P.1
  obtain ⟨eo, ho13, -⟩ := P.2 e
  subst hb hh
  have ve : vp_in (nI e) 20 := vp_in_nI (by omega) (by omega)
  have ce' : (nI e).toNatClampNeg = e := nI_clamp (by omega)
  refine br_f (nI_ge (b := 900) hx (by omega)) (br_t rfl (sc_xcarry hN hp hC ck e1 e2 hfc hcC h4 M (fun rg' M' => ⟨vp_in_nI (by omega) (by omega), nm_r (e' := nI e) (by rw [nI_clamp (by omega), e3]) ⟨ve, nm_r (e' := nI (o e)) (by rw [ce', eo]) ?_⟩⟩)))
  refine pk_eq (o e) 13 (fun z => nm_r (nI_1 x) (k13 z rg' M')) (fun z13 => pk_le 11 (o e) (fun z => ?_) (fun z => nm_r (nI_1 x) (kf z rg' M')))
  have hj : o e = 11 ∨ o e = 12 := by omega
  refine pk_eq t 40 (fun y => nm_r (nI_1 x) (k40 hj y rg' M')) (fun y => nm_r (nI_1 t) ?_)
  rcases Nat.eq_zero_or_pos (sc_hr o p h (e - p)) with h0 | h0
  · have hc := (sc_fit_can F hr).1.1
    have e12 : o e = 12 := by
      rcases hj with w | w
      · rw [w, h0] at hc
        exact absurd hc (by decide)
      · exact w
    rw [e12]
    refine br_t rfl (br_f (by decide) ⟨ve, nm_r (e' := nu e) (by rw [ce']) (nm_r (nI_1 x) (kj (Or.inr e12) (by omega) (Or.inl e12) rg' M'))⟩)
  · obtain ⟨g, hg⟩ : ∃ g, sc_hr o p h (e - p) = g + 1 := ⟨sc_hr o p h (e - p) - 1, by omega⟩
    rw [hg] at hr M' kj kn0
    rw [Nat.add_sub_cancel] at kj kn0
    refine sc_xtaken hN F H hr M' hj (fun w => br_f (by decide) ⟨ve, nm_r (e' := nu e) (by rw [ce']) (nm_r (nI_1 x) (kj hj (by omega) w rg' M'))⟩) (fun w1 w2 => br_t rfl (nm_r (nI_1 e) (nm_r (nI_1 x) (kn0 w1 (by omega) w2 rg' M'))))
end
end
section
/-! Y: pop, push, say, carryOut, steps of run -/
section
variable {sz cm ay tu tl sd : Int32} {op nu cy sk lc la : Nat → Int32}
variable {N : Nat} {o : Nat → Nat}
theorem sc_ypop {post : Int32 → SY → Prop} {q : Nat} (hq : q < 6) (k : post (sk q) (sz, cm, ay, tu, nI q, sd, op, nu, cy, sk, lc, la)) : wpY_pop post (sz, cm, ay, tu, nI (q + 1), sd, op, nu, cy, sk, lc, la) := by
  unfold wpY_pop
  dsimp only
  refine br_f (nI_nle (by omega) (by omega)) (nm_r (nI_pred q) ⟨vp_in_nI hq (by omega), ?_⟩)
  rw [nI_clamp (by omega)]
  exact k
theorem sc_ypush {post : SY → Prop} {q : Nat} {x : Int32} (hq : q < 6) (k : post (sz, cm, ay, tu, nI (q + 1), sd, op, nu, cy, upd sk q x, lc, la)) : wpY_push post (sz, cm, ay, tu, nI q, sd, op, nu, cy, sk, lc, la) x := by
  unfold wpY_push
  dsimp only
  refine br_f (nI_ge (b := 6) hq (by omega)) ⟨vp_in_nI hq (by omega), ?_⟩
  rw [nI_clamp (by omega)]
  exact nm_e (nm_r (nI_1 q) k)
theorem sc_ysay {post : SY → Prop} {x : Int32} (k : post (sz, cm, ay, tu, tl, sd + 1, op, nu, cy, sk, lc, sc_sh la x)) : wpY_say post (sz, cm, ay, tu, tl, sd, op, nu, cy, sk, lc, la) x := by
  have key : ∀ (i : Nat) (la : Nat → Int32), i < 8 → post (sz, cm, ay, tu, tl, sd + 1, op, nu, cy, sk, lc, upd (sc_shf i la) 0 x) → wY_say_3 post x sz cm ay tu tl sd (i + 1) (nI i) op nu cy sk lc la := by
    intro i
    induction i with
    | zero => intro la _ k; exact br_t (by decide) (nm_e (nm_e k))
    | succ i ih =>
      intro la hi k
      refine br_f (nI_nle (by omega) (by omega)) ?_
      rw [nI_pred, nI_clamp (n := i) (by omega), nI_clamp (n := i + 1) (by omega)]
      exact ⟨vp_in_nI (by omega) (by omega), vp_in_nI (by omega) (by omega), nm_e (nm_r (pk_m1 i) (ih _ (by omega) k))⟩
  exact ⟨8, key 7 la (by decide) k⟩
theorem sc_and3 : ∀ j, j < 4 → nI j &&& 3 = nI j := by decide
theorem sc_ycarry0 {post : SY → Prop} {w m p : Nat} {n : Int32} (hw : w ≤ 13) (h0 : sc_nd w = 0) (k : wY_carryOut_42 post (nI w) n (nI (p + 1)) 0 0 sz cm (nI p) tu tl sd op nu cy sk lc la) : wpY_carryOut post (sz, cm, nI p, tu, tl, sd, op, nu, cy, sk, lc, la) (nI w) n := by
  unfold wpY_carryOut
  dsimp only
  refine nm_r (nI_1 p) (sc_yneed hw ?_)
  rw [h0]
  refine br_t (by decide) (sc_yneed hw ?_)
  rw [h0]
  exact br_t (by decide) k
theorem sc_ycarry1 {post : SY → Prop} {w m p : Nat} {n : Int32} (hm : m < 6) (hw : w ≤ 13) (h1 : sc_nd w = 1) (k : wY_carryOut_42 post (nI w) n (nI (p + 1)) (sk m) 0 sz cm (nI p) tu (nI m) sd op nu cy sk lc la) : wpY_carryOut post (sz, cm, nI p, tu, nI (m + 1), sd, op, nu, cy, sk, lc, la) (nI w) n := by
  unfold wpY_carryOut
  dsimp only
  refine nm_r (nI_1 p) (sc_yneed hw ?_)
  rw [h1]
  refine br_f (by decide) (sc_ypop hm (sc_yneed hw ?_))
  rw [h1]
  exact br_t (by decide) k
theorem sc_ycarry2 {post : SY → Prop} {w m p : Nat} {n : Int32} (hm : m < 5) (hw : w ≤ 13) (h2 : sc_nd w = 2) (k : wY_carryOut_42 post (nI w) n (nI (p + 1)) (sk (m + 1)) (sk m) sz cm (nI p) tu (nI m) sd op nu cy sk lc la) : wpY_carryOut post (sz, cm, nI p, tu, nI (m + 2), sd, op, nu, cy, sk, lc, la) (nI w) n := by
  unfold wpY_carryOut
  dsimp only
  refine nm_r (nI_1 p) (sc_yneed hw ?_)
  rw [h2]
  refine br_f (by decide) (sc_ypop (q := m + 1) (by omega) (sc_yneed hw ?_))
  rw [h2]
  exact br_f (by decide) (sc_ypop (by omega) k)
theorem sc_ycarry {post : SY → Prop} {w m p : Nat} {n : Int32} {a : sc_Ab} (hm : m < 7) (hw : w < 11) (hc : sc_can w m) (hn : w = 1 ∨ w = 2 → ∃ j, j < 4 ∧ n = nI j)
    (k : post (sz, cm, nI (p + 1), tu, nI (sc_hn w m), (sc_one w n m a).2.2.2, op, nu, cy, (sc_one w n m a).1, (sc_one w n m a).2.1, (sc_one w n m a).2.2.1)) : wpY_carryOut post (sz, cm, nI p, tu, nI m, a.2.2.2, op, nu, cy, a.1, a.2.1, a.2.2.1) (nI w) n := by
  obtain ⟨hc1, hc2⟩ := hc
  have hw' : w = 0 ∨ w = 1 ∨ w = 2 ∨ w = 3 ∨ w = 4 ∨ w = 5 ∨ w = 6 ∨ w = 7 ∨ w = 8 ∨ w = 9 ∨ w = 10 := by omega
  rcases hw' with rfl | rfl | rfl | rfl | rfl | rfl | rfl | rfl | rfl | rfl | rfl
  · have m6 : m < 6 := hc2.elim id (fun z => absurd (Or.inl rfl) z)
    exact sc_ycarry0 (m := m) (by decide) rfl (br_t rfl (sc_ypush m6 k))
  · have m6 : m < 6 := hc2.elim id (fun z => absurd (Or.inr (Or.inl rfl)) z)
    obtain ⟨j, hj, rfl⟩ := hn (Or.inl rfl)
    refine sc_ycarry0 (m := m) (by decide) rfl (br_f (by decide) (br_t rfl ?_))
    rw [sc_and3 j hj]
    exact ⟨vp_in_nI hj (by omega), sc_ypush m6 k⟩
  · have m1 : 1 ≤ m := hc1
    obtain ⟨m, rfl⟩ : ∃ q, m = q + 1 := ⟨m - 1, by omega⟩
    obtain ⟨j, hj, rfl⟩ := hn (Or.inr rfl)
    refine sc_ycarry1 (by omega) (by decide) rfl (br_f (by decide) (br_f (by decide) (br_t rfl ?_)))
    rw [sc_and3 j hj]
    exact ⟨vp_in_nI hj (by omega), nm_e k⟩
  · have m1 : 2 ≤ m := hc1
    obtain ⟨m, rfl⟩ : ∃ q, m = q + 2 := ⟨m - 2, by omega⟩
    exact sc_ycarry2 (by omega) (by decide) rfl (br_f (by decide) (br_f (by decide) (br_f (by decide) (br_f (by decide) (br_t rfl (sc_ypush (by omega) k))))))
  · have m1 : 2 ≤ m := hc1
    obtain ⟨m, rfl⟩ : ∃ q, m = q + 2 := ⟨m - 2, by omega⟩
    exact sc_ycarry2 (by omega) (by decide) rfl (br_f (by decide) (br_f (by decide) (br_f (by decide) (br_f (by decide) (br_f (by decide) (br_t rfl (sc_ypush (by omega) k)))))))
  · have m1 : 2 ≤ m := hc1
    obtain ⟨m, rfl⟩ : ∃ q, m = q + 2 := ⟨m - 2, by omega⟩
    exact sc_ycarry2 (by omega) (by decide) rfl (br_f (by decide) (br_f (by decide) (br_f (by decide) (br_f (by decide) (br_f (by decide) (br_f (by decide) (br_t rfl (sc_ypush (by omega) k))))))))
  · have m1 : 2 ≤ m := hc1
    obtain ⟨m, rfl⟩ : ∃ q, m = q + 2 := ⟨m - 2, by omega⟩
    have e : sc_one 6 n (m + 2) a = (upd a.1 m (if a.1 (m + 1) ≤ a.1 m then 0 else 1), a.2) := rfl
    rw [e] at k
    refine sc_ycarry2 (by omega) (by decide) rfl (br_f (by decide) (br_f (by decide) (br_f (by decide) (br_f (by decide) (br_f (by decide) (br_f (by decide) (br_f (by decide) ?_)))))))
    by_cases z : a.1 (m + 1) ≤ a.1 m
    · rw [if_pos z] at k
      exact br_t z (sc_ypush (by omega) k)
    · rw [if_neg z] at k
      exact br_f z (sc_ypush (by omega) k)
  · have m6 : m < 6 := hc2.elim id (fun z => absurd (Or.inr (Or.inr rfl)) z)
    have m1 : 1 ≤ m := hc1
    obtain ⟨m, rfl⟩ : ∃ q, m = q + 1 := ⟨m - 1, by omega⟩
    exact sc_ycarry1 (by omega) (by decide) rfl (br_f (by decide) (br_f (by decide) (br_f (by decide) (br_t (by decide) (br_t rfl (sc_ypush (by omega) (sc_ypush (by omega) k)))))))
  · have m1 : 2 ≤ m := hc1
    obtain ⟨m, rfl⟩ : ∃ q, m = q + 2 := ⟨m - 2, by omega⟩
    exact sc_ycarry2 (by omega) (by decide) rfl (br_f (by decide) (br_f (by decide) (br_f (by decide) (br_t (by decide) (br_f (by decide) (br_t rfl (sc_ypush (by omega) (sc_ypush (by omega) k))))))))
  · have m1 : 1 ≤ m := hc1
    obtain ⟨m, rfl⟩ : ∃ q, m = q + 1 := ⟨m - 1, by omega⟩
    exact sc_ycarry1 (by omega) (by decide) rfl (br_f (by decide) (br_f (by decide) (br_f (by decide) (br_t (by decide) (br_f (by decide) (br_f (by decide) (br_f (by decide) (br_f (by decide) (br_f (by decide) k)))))))))
  · have m1 : 1 ≤ m := hc1
    obtain ⟨m, rfl⟩ : ∃ q, m = q + 1 := ⟨m - 1, by omega⟩
    exact sc_ycarry1 (by omega) (by decide) rfl (br_f (by decide) (br_f (by decide) (br_f (by decide) (br_t (by decide) (br_f (by decide) (br_f (by decide) (br_t rfl (sc_ysay k))))))))
theorem sc_yzero {post : SY → Prop} {m p t : Nat} {n : Int32} (hm : m < 6) (k1 : sk m = 0 → post (sz, cm, n, nI (t + 1), nI m, sd, op, nu, cy, sk, lc, la)) (k0 : ¬ sk m = 0 → post (sz, cm, nI (p + 1), nI (t + 1), nI m, sd, op, nu, cy, sk, lc, la)) : wpY_carryOut post (sz, cm, nI p, nI t, nI (m + 1), sd, op, nu, cy, sk, lc, la) 11 n := by
  refine sc_ycarry1 (w := 11) hm (by decide) rfl (br_f (by decide) (br_f (by decide) (br_f (by decide) (br_t (by decide) (br_f (by decide) (br_f (by decide) (br_f (by decide) (br_t rfl ?_))))))))
  refine nm_r (nI_1 t) (br_f (by decide) ?_)
  by_cases z : sk m = 0
  · exact br_t z (k1 z)
  · exact br_f z (k0 z)
theorem sc_yjump {post : SY → Prop} {p t : Nat} {n : Int32} (k : post (sz, cm, n, nI (t + 1), tl, sd, op, nu, cy, sk, lc, la)) : wpY_carryOut post (sz, cm, nI p, nI t, tl, sd, op, nu, cy, sk, lc, la) 12 n := by
  refine sc_ycarry0 (w := 12) (m := 0) (by decide) rfl (br_f (by decide) (br_f (by decide) (br_f (by decide) (br_t (by decide) (br_f (by decide) (br_f (by decide) (br_f (by decide) (br_f (by decide) (br_t rfl ?_)))))))))
  exact nm_r (nI_1 t) (br_t rfl k)
theorem sc_yst {post : Int32 → SY → Prop} {n x p m : Nat} {a : sc_Ab} (P : sc_PO N op o nu) (hx : x < 900) (hp : p < N) (hm : m < 7) (hw : o p < 11) (hc : sc_can (o p) m)
    (k : wY_run_53 post n (nI (x + 1)) (nI N) 0 (nI (p + 1)) tu (nI (sc_hn (o p) m)) ((sc_one (o p) (nu p) m a).2.2.2) op nu cy ((sc_one (o p) (nu p) m a).1) ((sc_one (o p) (nu p) m a).2.1) ((sc_one (o p) (nu p) m a).2.2.1)) :
    wY_run_53 post (n + 1) (nI x) (nI N) 0 (nI p) tu (nI m) a.2.2.2 op nu cy a.1 a.2.1 a.2.2.1 := by
  have hN := P.1
  obtain ⟨eo, ho13, hl4⟩ := P.2 p
  have v : vp_in (nI p) 20 := vp_in_nI (by omega) (by omega)
  refine br_f (nI_ge (b := 900) hx (by omega)) (br_t rfl (sc_yinside (fun _ => br_f (by decide) ⟨v, nm_r (e' := nI (o p)) (by rw [nI_clamp (by omega), eo]) ?_⟩) (fun w => absurd ((sc_in_nI hN (by omega)).mpr hp) w)))
  refine pk_eq (o p) 13 (fun z => by omega) (fun _ => pk_eq (o p) 11 (fun z => by omega) (fun _ => pk_eq (o p) 12 (fun z => by omega) (fun _ => ⟨v, ?_⟩)))
  rw [nI_clamp (by omega)]
  exact sc_ycarry hm hw hc hl4 (nm_r (nI_1 x) k)
theorem sc_yline {post : Int32 → SY → Prop} {p h : Nat} {a : sc_Ab} (P : sc_PO N op o nu) (F : sc_Fit N o nu) (hr : sc_R N o nu p h) :
    ∀ (j n x : Nat), (∀ q, p ≤ q → q < p + j → o q < 11) → x + j ≤ 900 → (sc_R N o nu (p + j) (sc_hr o p h j) ∧ (wY_run_53 post n (nI (x + j)) (nI N) 0 (nI (p + j)) tu (nI (sc_hr o p h j)) ((sc_ar o nu p h j a).2.2.2) op nu cy ((sc_ar o nu p h j a).1) ((sc_ar o nu p h j a).2.1) ((sc_ar o nu p h j a).2.2.1) →
      wY_run_53 post (n + j) (nI x) (nI N) 0 (nI p) tu (nI h) a.2.2.2 op nu cy a.1 a.2.1 a.2.2.1)) := by
  intro j
  induction j with
  | zero => intro n x _ _; exact ⟨hr, fun z => z⟩
  | succ j ih =>
    intro n x ho hx
    obtain ⟨i1, i2⟩ := ih (n + 1) x (fun q q1 q2 => ho q q1 (by omega)) (by omega)
    have hw := ho (p + j) (by omega) (by omega)
    obtain ⟨n1, n2⟩ := sc_fit_n F i1 (by omega)
    obtain ⟨l1, l2⟩ := sc_R_lt i1
    refine ⟨n2, fun z => ?_⟩
    have q := i2 (sc_yst P (by omega) l1 l2 hw (sc_fit_can F i1).1 z)
    rw [show n + 1 + j = n + (j + 1) by omega] at q
    exact q
end
end
section
/-! both runs, side by side -/
def sc_ms (p t : Nat) : Nat := (40 - t) * 20 + (20 - p)
section
variable {sz jd cd cs kn sp st ax oc : Int32} {op nu hs nt wt CO CT LR LV RR RV ld cf ce be KR KV rg la : Nat → Int32}
variable {cy : Nat → Int32} {N : Nat} {o : Nat → Nat}
theorem sc_xend {post : Int32 → SX → Prop} {n x : Nat} {x3 x4 : Int32} (hst : ¬ st = 0) (hx : x ≤ 900) (k : post st (sz, jd, cd, cs, kn, sp, st, ax, oc, op, nu, hs, nt, wt, CO, CT, LR, LV, RR, RV, ld, cf, ce, be, KR, KV, rg, la)) : wX_run_66 post (n + 1) x3 x4 (nI x) sz jd cd cs kn sp st ax oc op nu hs nt wt CO CT LR LV RR RV ld cf ce be KR KV rg la :=
  pk_le 900 x (fun _ => k) (fun _ => br_f hst k)
end
section
variable {sz cm ay tu tl sd : Int32} {op nu cy sk lc la : Nat → Int32}
theorem sc_yend {post : Int32 → SY → Prop} {n x : Nat} (hs : ¬ cm = 0) (hx : x ≤ 900) (k : post cm (sz, cm, ay, tu, tl, sd, op, nu, cy, sk, lc, la)) : wY_run_53 post (n + 1) (nI x) sz cm ay tu tl sd op nu cy sk lc la :=
  pk_le 900 x (fun _ => k) (fun _ => br_f hs k)
theorem sc_y13 {post : Int32 → SY → Prop} {n x e N : Nat} {o : Nat → Nat} (P : sc_PO N op o nu) (hx : x < 900) (he : e < N) (ho : o e = 13) (k : post 1 (nI N, 1, nI e, tu, tl, sd, op, nu, cy, sk, lc, la)) : wY_run_53 post (n + 1 + 1) (nI x) (nI N) 0 (nI e) tu tl sd op nu cy sk lc la := by
  have hN := P.1
  obtain ⟨eo, ho13, -⟩ := P.2 e
  have v : vp_in (nI e) 20 := vp_in_nI (by omega) (by omega)
  refine br_f (nI_ge (b := 900) hx (by omega)) (br_t rfl (sc_yinside (fun _ => br_f (by decide) ⟨v, nm_r (e' := nI (o e)) (by rw [nI_clamp (by omega), eo]) ?_⟩) (fun w => absurd ((sc_in_nI hN (by omega)).mpr he) w)))
  exact pk_eq (o e) 13 (fun _ => nm_r (nI_1 x) (sc_yend (by decide) (by omega) k)) (fun z => absurd ho z)
theorem sc_y40t {post : Int32 → SY → Prop} {n x e N : Nat} {o : Nat → Nat} (P : sc_PO N op o nu) (hx : x < 900) (he : e < N) (ho : o e = 11 ∨ o e = 12) (k : post 2 (nI N, 2, nI e, nI 40, tl, sd, op, nu, cy, sk, lc, la)) : wY_run_53 post (n + 1 + 1) (nI x) (nI N) 0 (nI e) (nI 40) tl sd op nu cy sk lc la := by
  have hN := P.1
  obtain ⟨eo, ho13, -⟩ := P.2 e
  have v : vp_in (nI e) 20 := vp_in_nI (by omega) (by omega)
  have K118 : wY_run_118 post (wY_run_53 post (n + 1)) (nI x) (nI (o e)) (nI N) 0 (nI e) (nI 40) tl sd op nu cy sk lc la :=
    br_f (by decide) (nm_r (nI_1 x) (sc_yend (by decide) (by omega) k))
  refine br_f (nI_ge (b := 900) hx (by omega)) (br_t rfl (sc_yinside (fun _ => br_f (by decide) ⟨v, nm_r (e' := nI (o e)) (by rw [nI_clamp (by omega), eo]) ?_⟩) (fun w => absurd ((sc_in_nI hN (by omega)).mpr he) w)))
  exact pk_eq (o e) 13 (fun z => by omega) (fun _ => pk_eq (o e) 11 (fun _ => K118) (fun z => pk_eq (o e) 12 (fun _ => K118) (fun z' => by omega)))
theorem sc_yj12 {post : Int32 → SY → Prop} {n x e t N : Nat} {o : Nat → Nat} (P : sc_PO N op o nu) (hx : x < 900) (he : e < N) (ht : t < 40) (ho : o e = 12)
    (k : wY_run_53 post n (nI (x + 1)) (nI N) 0 (nu e) (nI (t + 1)) tl sd op nu cy sk lc la) : wY_run_53 post (n + 1) (nI x) (nI N) 0 (nI e) (nI t) tl sd op nu cy sk lc la := by
  have hN := P.1
  obtain ⟨eo, ho13, -⟩ := P.2 e
  have v : vp_in (nI e) 20 := vp_in_nI (by omega) (by omega)
  have K118 : wY_run_118 post (wY_run_53 post n) (nI x) 12 (nI N) 0 (nI e) (nI t) tl sd op nu cy sk lc la := by
    refine br_t (nI_lt (b := 40) ht (by omega)) ⟨v, ?_⟩
    rw [nI_clamp (by omega)]
    exact sc_yjump (nm_r (nI_1 x) k)
  refine br_f (nI_ge (b := 900) hx (by omega)) (br_t rfl (sc_yinside (fun _ => br_f (by decide) ⟨v, nm_r (e' := 12) (by rw [nI_clamp (by omega), eo, ho]; rfl) ?_⟩) (fun w => absurd ((sc_in_nI hN (by omega)).mpr he) w)))
  exact br_f (by decide) (br_f (by decide) (br_t rfl K118))
theorem sc_yj11 {post : Int32 → SY → Prop} {n x e t m N : Nat} {o : Nat → Nat} (P : sc_PO N op o nu) (hx : x < 900) (he : e < N) (ht : t < 40) (ho : o e = 11) (hm : m < 6)
    (k1 : sk m = 0 → wY_run_53 post n (nI (x + 1)) (nI N) 0 (nu e) (nI (t + 1)) (nI m) sd op nu cy sk lc la) (k0 : ¬ sk m = 0 → wY_run_53 post n (nI (x + 1)) (nI N) 0 (nI (e + 1)) (nI (t + 1)) (nI m) sd op nu cy sk lc la) : wY_run_53 post (n + 1) (nI x) (nI N) 0 (nI e) (nI t) (nI (m + 1)) sd op nu cy sk lc la := by
  have hN := P.1
  obtain ⟨eo, ho13, -⟩ := P.2 e
  have v : vp_in (nI e) 20 := vp_in_nI (by omega) (by omega)
  have K118 : wY_run_118 post (wY_run_53 post n) (nI x) 11 (nI N) 0 (nI e) (nI t) (nI (m + 1)) sd op nu cy sk lc la := by
    refine br_t (nI_lt (b := 40) ht (by omega)) ⟨v, ?_⟩
    rw [nI_clamp (by omega)]
    exact sc_yzero hm (fun z => nm_r (nI_1 x) (k1 z)) (fun z => nm_r (nI_1 x) (k0 z))
  refine br_f (nI_ge (b := 900) hx (by omega)) (br_t rfl (sc_yinside (fun _ => br_f (by decide) ⟨v, nm_r (e' := 11) (by rw [nI_clamp (by omega), eo, ho]; rfl) ?_⟩) (fun w => absurd ((sc_in_nI hN (by omega)).mpr he) w)))
  exact br_f (by decide) (br_t rfl K118)
end

section
variable {sz jd cd cs kn sp st ax oc : Int32} {op nu hs nt wt CO CT LR LV RR RV ld cf ce be KR KV rg la : Nat → Int32}
variable {N : Nat} {o : Nat → Nat}
theorem sc_Mi_le {h g : Nat} {r : Nat → Int32} {a : sc_Ab} (hg : g ≤ h) (M : sc_Mi h r a) : sc_Mi g r a := ⟨M.1, fun k hk => M.2 k (by omega)⟩
theorem sc_lock (P : sc_PO N op o nu) (F : sc_Fit N o nu) (H : sc_HS hs (sc_R N o nu)) (CP : sc_CP N o nu ld cf ce be (sc_kz CO CT LR LV RR RV)) : ∀ (M p h t : Nat) (a : sc_Ab), sc_ms p t ≤ M → t ≤ 40 → sc_R N o nu p h → ¬ ld p = 0 →
    ∃ (d : Int32) (p' h' t' : Nat) (b : sc_Ab), (d = 1 ∨ d = 2) ∧ sc_R N o nu p' h' ∧
      (∀ (post : Int32 → SX → Prop) (n x : Nat) (ax : Int32) (rg : Nat → Int32), sc_ms p t < n → x + sc_ms p t < 900 → sc_Mi h rg a → (∀ rg, sc_Mi h' rg b → post d (nI N, jd, cd, cs, kn, sp, d, nI p', b.2.2.2, op, nu, hs, nt, wt, CO, CT, LR, LV, RR, RV, ld, cf, ce, be, KR, KV, rg, b.2.2.1)) → wX_run_66 post n (nI t) (nI p) (nI x) (nI N) jd cd cs kn sp 0 ax a.2.2.2 op nu hs nt wt CO CT LR LV RR RV ld cf ce be KR KV rg a.2.2.1) ∧
      (∀ (cy : Nat → Int32) (post : Int32 → SY → Prop) (n x : Nat), sc_ms p t < n → x + sc_ms p t < 900 → post d (nI N, d, nI p', nI t', nI h', b.2.2.2, op, nu, cy, b.1, b.2.1, b.2.2.1) → wY_run_53 post n (nI x) (nI N) 0 (nI p) (nI t) (nI h) a.2.2.2 op nu cy a.1 a.2.1 a.2.2.1) := by
  have hN := P.1
  obtain ⟨L, C, hC, ck, hB⟩ := CP
  intro M
  induction M with
  | zero =>
    intro p h t a hM ht hr
    have := (sc_R_lt hr).1
    unfold sc_ms at hM
    omega
  | succ M ih =>
    intro p h t a hM ht hr hl
    obtain ⟨f, c, e, e1, e2, e3, h1, h2, ⟨n1, n2, n3, n4⟩, h4⟩ := hB p h hl hr
    obtain ⟨j, rfl⟩ : ∃ j, e = p + j := ⟨e - p, by omega⟩
    have hp := (sc_R_lt hr).1
    have hre := (sc_yline (post := fun _ _ => True) (tu := 0) (cy := nu) (a := a) P F hr j 0 0 n3 (by omega)).1
    have ej : p + j - p = j := by omega
    obtain ⟨-, hh7⟩ := sc_R_lt hre
    generalize hb : sc_ar o nu p h j a = b at *
    generalize hh : sc_hr o p h j = h' at *
    have hb' : b = sc_ar o nu p h (p + j - p) a := by rw [ej, hb]
    have hh' : h' = sc_hr o p h (p + j - p) := by rw [ej, hh]
    have Yl : ∀ (cy : Nat → Int32) (post : Int32 → SY → Prop) (n x : Nat), x + j ≤ 900 → wY_run_53 post n (nI (x + j)) (nI N) 0 (nI (p + j)) (nI t) (nI h') b.2.2.2 op nu cy b.1 b.2.1 b.2.2.1 → wY_run_53 post (n + j) (nI x) (nI N) 0 (nI p) (nI t) (nI h) a.2.2.2 op nu cy a.1 a.2.1 a.2.2.1 := by
      intro cy post n x hx
      have q := (sc_yline (post := post) (tu := nI t) (cy := cy) (a := a) P F hr j n x n3 hx).2
      rw [hb, hh] at q
      exact q
    have em : sc_ms p t = sc_ms (p + j) t + j := by unfold sc_ms; omega
    have pos : 1 ≤ sc_ms (p + j) t := by unfold sc_ms; omega
    have hcases : o (p + j) = 13 ∨ ((o (p + j) = 11 ∨ o (p + j) = 12) ∧ t = 40) ∨ ((o (p + j) = 11 ∨ o (p + j) = 12) ∧ t < 40) ∨ o (p + j) < 11 := by
      have := (P.2 (p + j)).2.1
      omega
    rcases hcases with c13 | ⟨cj, c40⟩ | ⟨cj, c39⟩ | cf'
    · refine ⟨1, p + j, h', t, b, Or.inl rfl, hre, ?_, ?_⟩
      · intro post n x ax rg hn hx Mi k
        obtain ⟨n, rfl⟩ : ∃ q, n = q + 1 + 1 := ⟨n - 2, by omega⟩
        refine sc_xround P F H (by omega) ht hp n2 hC ck e1 e2 e3 h1 h2 h4 Mi hb' hh' hre (fun _ rg M' => sc_xend (by decide) (by omega) (k rg M')) (fun z => by omega) (fun z => by omega) (fun z => by omega) (fun z => by omega)
      · intro cy post n x hn hx k
        obtain ⟨n, rfl⟩ : ∃ q, n = q + 1 + 1 + j := ⟨n - 2 - j, by omega⟩
        exact Yl cy post _ x (by omega) (sc_y13 P (by omega) n2 c13 k)
    · subst c40
      refine ⟨2, p + j, h', 40, b, Or.inr rfl, hre, ?_, ?_⟩
      · intro post n x ax rg hn hx Mi k
        obtain ⟨n, rfl⟩ : ∃ q, n = q + 1 + 1 := ⟨n - 2, by omega⟩
        refine sc_xround P F H (by omega) ht hp n2 hC ck e1 e2 e3 h1 h2 h4 Mi hb' hh' hre (fun z => by omega) (fun _ _ rg M' => sc_xend (by decide) (by omega) (k rg M')) (fun _ z => by omega) (fun _ z => by omega) (fun z => by omega)
      · intro cy post n x hn hx k
        obtain ⟨n, rfl⟩ : ∃ q, n = q + 1 + 1 + j := ⟨n - 2 - j, by omega⟩
        exact Yl cy post _ x (by omega) (sc_y40t P (by omega) n2 cj k)
    · have hcan := (sc_fit_can F hre).1
      obtain ⟨q, hq, eq, hrq⟩ := sc_fit_j hN F hre cj
      obtain ⟨l1, l2⟩ := L.2 (p + j) h' n2 hre cj
      have lq := l2 q hq eq
      have msq : sc_ms q (t + 1) + 1 ≤ sc_ms (p + j) t := by unfold sc_ms; omega
      by_cases tk : o (p + j) = 12 ∨ b.1 (h' - 1) = 0
      · obtain ⟨d, p2, h2', t2, b2, i1, i2, i3, i4⟩ := ih q (sc_hn (o (p + j)) h') (t + 1) b (by omega) (by omega) hrq lq
        have hnle : sc_hn (o (p + j)) h' ≤ h' := by
          unfold sc_hn
          rw [if_neg (by simp only [sc_up]; omega)]
          split <;> omega
        refine ⟨d, p2, h2', t2, b2, i1, i2, ?_, ?_⟩
        · intro post n x ax rg hn hx Mi k
          obtain ⟨n, rfl⟩ : ∃ q, n = q + 1 := ⟨n - 1, by omega⟩
          refine sc_xround P F H (by omega) ht hp n2 hC ck e1 e2 e3 h1 h2 h4 Mi hb' hh' hre (fun z => by omega) (fun _ z => by omega) (fun _ _ _ rg M' => ?_) (fun z1 _ z2 => (tk.elim (fun w => by omega) z2).elim) (fun z => by omega)
          rw [eq]
          exact i3 post n (x + 1) _ rg (by omega) (by omega) (sc_Mi_le hnle M') k
        · intro cy post n x hn hx k
          obtain ⟨n, rfl⟩ : ∃ q, n = q + 1 + j := ⟨n - 1 - j, by omega⟩
          refine Yl cy post _ x (by omega) ?_
          have Y := i4 cy post n (x + j + 1) (by omega) (by omega) k
          rw [← eq] at Y
          rcases cj with c11 | c12
          · have h'1 : 1 ≤ h' := by rw [c11] at hcan; exact hcan.1
            obtain ⟨g, rfl⟩ : ∃ g, h' = g + 1 := ⟨h' - 1, by omega⟩
            rw [c11] at Y
            exact sc_yj11 P (by omega) n2 c39 c11 (by omega) (fun _ => Y) (fun z => (tk.elim (fun w => by omega) z).elim)
          · rw [c12] at Y
            exact sc_yj12 P (by omega) n2 c39 c12 Y
      · have c11 : o (p + j) = 11 := by omega
        obtain ⟨m1, m2⟩ := sc_fit_n F hre (by omega)
        have msn : sc_ms (p + j + 1) (t + 1) + 1 ≤ sc_ms (p + j) t := by unfold sc_ms; omega
        obtain ⟨d, p2, h2', t2, b2, i1, i2, i3, i4⟩ := ih (p + j + 1) (sc_hn (o (p + j)) h') (t + 1) b (by omega) (by omega) m2 l1
        have hnle : sc_hn (o (p + j)) h' ≤ h' := by
          unfold sc_hn
          rw [if_neg (by simp only [sc_up]; omega)]
          split <;> omega
        refine ⟨d, p2, h2', t2, b2, i1, i2, ?_, ?_⟩
        · intro post n x ax rg hn hx Mi k
          obtain ⟨n, rfl⟩ : ∃ q, n = q + 1 := ⟨n - 1, by omega⟩
          exact sc_xround P F H (by omega) ht hp n2 hC ck e1 e2 e3 h1 h2 h4 Mi hb' hh' hre (fun z => by omega) (fun _ z => by omega) (fun _ _ z => absurd z tk) (fun _ _ _ rg M' => i3 post n (x + 1) _ rg (by omega) (by omega) (sc_Mi_le hnle M') k) (fun z => by omega)
        · intro cy post n x hn hx k
          obtain ⟨n, rfl⟩ : ∃ q, n = q + 1 + j := ⟨n - 1 - j, by omega⟩
          refine Yl cy post _ x (by omega) ?_
          have Y := i4 cy post n (x + j + 1) (by omega) (by omega) k
          have h'1 : 1 ≤ h' := by rw [c11] at hcan; exact hcan.1
          obtain ⟨g, rfl⟩ : ∃ g, h' = g + 1 := ⟨h' - 1, by omega⟩
          rw [c11] at Y
          exact sc_yj11 P (by omega) n2 c39 c11 (by omega) (fun z => absurd (Or.inr z) tk) (fun _ => Y)
    · obtain ⟨le, lj⟩ : ¬ ld (p + j) = 0 ∧ p < p + j := n4.elim (fun z => by omega) id
      obtain ⟨d, p2, h2', t2, b2, i1, i2, i3, i4⟩ := ih (p + j) h' t b (by omega) ht hre le
      refine ⟨d, p2, h2', t2, b2, i1, i2, ?_, ?_⟩
      · intro post n x ax rg hn hx Mi k
        obtain ⟨n, rfl⟩ : ∃ q, n = q + 1 := ⟨n - 1, by omega⟩
        exact sc_xround P F H (by omega) ht hp n2 hC ck e1 e2 e3 h1 h2 h4 Mi hb' hh' hre (fun z => by omega) (fun z => by omega) (fun z => by omega) (fun z => by omega) (fun _ rg M' => i3 post n (x + 1) _ rg (by omega) (by omega) M' k)
      · intro cy post n x hn hx k
        obtain ⟨n, rfl⟩ : ∃ q, n = q + j := ⟨n - j, by omega⟩
        exact Yl cy post _ x (by omega) (i4 cy post n (x + j) (by omega) (by omega) k)
end
end
section
/-! the relation -/
def sc_RR (jd cd st ax oc : Int32) (op nu hs nt : Nat → Int32) (K : Nat → sc_Ce) (ld cf ce be rg la : Nat → Int32) (tl : Int32) (sk lc : Nat → Int32) (N : Nat) (o : Nat → Nat) : Prop :=
  sc_PO N op o nu ∧ (jd = 0 ∨ (jd = 1 ∧ sc_JD N o nu hs nt)) ∧ (cd = 0 ∨ (cd = 1 ∧ sc_CP N o nu ld cf ce be K)) ∧
  ((st = 0 ∧ tl = 0) ∨ (¬ st = 0 ∧ jd = 1 ∧ sc_Fit N o nu ∧ ∃ p h, ax = nI p ∧ tl = nI h ∧ sc_R N o nu p h ∧ sc_Mi h rg (sk, lc, la, oc)))
def i_Rel (_ : Nat) (u : SX) (v : SY) : Prop := match u with
  | (sz, jd, cd, cs, kn, sp, st, ax, oc, op, nu, hs, nt, wt, CO, CT, LR, LV, RR, RV, ld, cf, ce, be, KR, KV, rg, la) => match v with
    | (sz', cm, ay, tu, tl, sd, op', nu', cy, sk, lc, la') => ∃ (N : Nat) (o : Nat → Nat), sz = nI N ∧ sz' = nI N ∧ cm = st ∧ sd = oc ∧ op' = op ∧ nu' = nu ∧ la' = la ∧ sc_RR jd cd st ax oc op nu hs nt (sc_kz CO CT LR LV RR RV) ld cf ce be rg la tl sk lc N o
theorem i_up {k : Nat} {u : SX} {v : SY} (h : i_Rel k u v) : i_Rel (k + 4) u v := h
theorem sc_el {k : Nat} {u : SX} {v : SY} {P : SX → SY → Prop} (h : ∀ (N : Nat) (o : Nat → Nat) (jd cd cs kn sp st ax oc : Int32) (op nu hs nt wt CO CT LR LV RR RV ld cf ce be KR KV rg la : Nat → Int32) (ay tu tl : Int32) (cy sk lc : Nat → Int32), sc_RR jd cd st ax oc op nu hs nt (sc_kz CO CT LR LV RR RV) ld cf ce be rg la tl sk lc N o → P (nI N, jd, cd, cs, kn, sp, st, ax, oc, op, nu, hs, nt, wt, CO, CT, LR, LV, RR, RV, ld, cf, ce, be, KR, KV, rg, la) (nI N, st, ay, tu, tl, oc, op, nu, cy, sk, lc, la)) (I : i_Rel k u v) : P u v := by
  obtain ⟨sz, jd, cd, cs, kn, sp, st, ax, oc, op, nu, hs, nt, wt, CO, CT, LR, LV, RR, RV, ld, cf, ce, be, KR, KV, rg, la⟩ := u
  obtain ⟨sz', cm, ay, tu, tl, sd, op', nu', cy, sk, lc, la'⟩ := v
  obtain ⟨N, o, r1, r2, r3, r4, r5, r6, r7, R⟩ := I
  subst r1 r2 r3 r4 r5 r6 r7
  exact h N o jd cd cs kn sp _ ax _ _ _ hs nt wt CO CT LR LV RR RV ld cf ce be KR KV rg _ ay tu tl cy sk lc R
section
variable {sz jd cd cs kn sp st ax oc : Int32} {op nu hs nt wt CO CT LR LV RR RV ld cf ce be KR KV rg la : Nat → Int32}
variable {ay tu tl : Int32} {cy sk lc : Nat → Int32} {N : Nat} {o : Nat → Nat} {k : Nat}
theorem sc_ir (R : sc_RR jd cd st ax oc op nu hs nt (sc_kz CO CT LR LV RR RV) ld cf ce be rg la tl sk lc N o) : i_Rel k (nI N, jd, cd, cs, kn, sp, st, ax, oc, op, nu, hs, nt, wt, CO, CT, LR, LV, RR, RV, ld, cf, ce, be, KR, KV, rg, la) (nI N, st, ay, tu, tl, oc, op, nu, cy, sk, lc, la) := ⟨N, o, rfl, rfl, rfl, rfl, rfl, rfl, rfl, R⟩
end
/-! instructionOk and bad -/
abbrev sc_ok (x n : Int32) : Prop := ¬ x < 0 ∧ ¬ 13 < x ∧ ((x = 1 ∨ x = 2) → ¬ n < 0 ∧ ¬ 3 < n)
theorem sc_ok_w {x n : Int32} (h : sc_ok x n) : ∃ w, w ≤ 13 ∧ x = nI w ∧ (w = 1 ∨ w = 2 → ∃ j, j < 4 ∧ n = nI j) := by
  obtain ⟨h1, h2, h3⟩ := h
  obtain ⟨w, hw, rfl⟩ := nI_of2 (M := 13) (n := 13) (by decide) h1 (Int32.not_lt.mp h2)
  refine ⟨w, hw, rfl, fun z => ?_⟩
  obtain ⟨g1, g2⟩ := h3 (z.elim (fun e => Or.inl (by rw [e]; rfl)) (fun e => Or.inr (by rw [e]; rfl)))
  obtain ⟨j, hj, rfl⟩ := nI_of2 (M := 3) (n := 3) (by decide) g1 (Int32.not_lt.mp g2)
  exact ⟨j, by omega, rfl⟩
theorem sc_xok {post : Int32 → Prop} {x n : Int32} (k1 : sc_ok x n → post 1) (k0 : ¬ sc_ok x n → post 0) : wpX_instructionOk post x n := by
  have K : ∀ z : Int32, (z = 0 ↔ ¬ (x = 1 ∨ x = 2)) → wX_instructionOk_15 post x n z := by
    intro z hz
    by_cases a : x < 0
    · exact br_t a (k0 fun w => w.1 a)
    · by_cases b : 13 < x
      · exact br_f a (br_t b (k0 fun w => w.2.1 b))
      · by_cases c : z = 0
        · exact br_f a (br_f b (br_t c (k1 ⟨a, b, fun w => absurd w (hz.mp c)⟩)))
        · have l : x = 1 ∨ x = 2 := Classical.byContradiction fun w => c (hz.mpr w)
          by_cases d : n < 0
          · exact br_f a (br_f b (br_f c (br_t d (k0 fun w => (w.2.2 l).1 d))))
          · by_cases e : 3 < n
            · exact br_f a (br_f b (br_f c (br_f d (br_t e (k0 fun w => (w.2.2 l).2 e)))))
            · exact br_f a (br_f b (br_f c (br_f d (br_f e (k1 ⟨a, b, fun _ => ⟨d, e⟩⟩)))))
  by_cases a : x = 1
  · exact br_t a (K 1 ⟨fun w => absurd w (by decide), fun w => absurd (Or.inl a) w⟩)
  · by_cases b : x = 2
    · exact br_f a (br_t b (K 1 ⟨fun w => absurd w (by decide), fun w => absurd (Or.inr b) w⟩))
    · exact br_f a (br_f b (K 0 ⟨fun _ w => w.elim a b, fun _ => rfl⟩))
section
variable {sz cm ay tu tl sd : Int32} {op nu cy sk lc la : Nat → Int32}
theorem sc_ybad {post : Int32 → Prop} {x n : Int32} (k1 : sc_ok x n → post 0) (k0 : ¬ sc_ok x n → post 1) : wpY_bad post (sz, cm, ay, tu, tl, sd, op, nu, cy, sk, lc, la) x n := by
  by_cases a : x < 0
  · exact br_t a (k0 fun w => w.1 a)
  · by_cases b : 13 < x
    · exact br_f a (br_t b (k0 fun w => w.2.1 b))
    · have K : (x = 1 ∨ x = 2) → wY_bad_20 post n sz cm ay tu tl sd op nu cy sk lc la := by
        intro l
        by_cases d : n < 0
        · exact br_t d (k0 fun w => (w.2.2 l).1 d)
        · by_cases e : n ≤ 3
          · exact br_f d (br_t e (k1 ⟨a, b, fun _ => ⟨d, Int32.not_lt.mpr e⟩⟩))
          · exact br_f d (br_f e (k0 fun w => e (Int32.not_lt.mp (w.2.2 l).2)))
      by_cases c : x = 1
      · exact br_f a (br_f b (br_t c (K (Or.inl c))))
      · by_cases d : x = 2
        · exact br_f a (br_f b (br_f c (br_t d (K (Or.inr d)))))
        · exact br_f a (br_f b (br_f c (br_f d (k1 ⟨a, b, fun w => absurd w (fun v => v.elim c d)⟩))))
end
theorem sc_PO_u {N N' q w : Nat} {op nu : Nat → Int32} {o : Nat → Nat} {n : Int32} (P : sc_PO N op o nu) (hN : N' ≤ 20) (hw : w ≤ 13) (hn : w = 1 ∨ w = 2 → ∃ j, j < 4 ∧ n = nI j) : sc_PO N' (upd op q (nI w)) (fun p => if p = q then w else o p) (upd nu q n) := by
  refine ⟨hN, fun p => ?_⟩
  dsimp only
  by_cases e : p = q
  · subst e
    rw [pk_us, pk_us, if_pos rfl]
    exact ⟨rfl, hw, hn⟩
  · rw [pk_un e, pk_un e, if_neg e]
    exact P.2 p
end
section
/-! the owed statements but run -/
theorem i_vc0 : wpX_init (fun u => wpY_init (fun v => i_Rel 0 u v)) :=
  ⟨0, fun _ => 0, rfl, rfl, rfl, rfl, rfl, rfl, rfl, ⟨by decide, fun p => ⟨rfl, Nat.zero_le 13, fun z => by simp at z⟩⟩, Or.inl rfl, Or.inl rfl, Or.inl ⟨rfl, rfl⟩⟩
theorem i_vc_emit {k : Nat} {u : SX} {v : SY} (I : i_Rel k u v) (hk : k + 4 ≤ 2048) (v1 : Int32) (v2 : Int32) : wpX_emit (fun r u' => wpY_emit (fun r' v' => r' = r ∧ i_Rel (k + 4) u' v') v v1 v2) u v1 v2 := by
  refine sc_el (P := fun u v => wpX_emit (fun r u' => wpY_emit (fun r' v' => r' = r ∧ i_Rel (k + 4) u' v') v v1 v2) u v1 v2) ?_ I
  intro N o jd cd cs kn sp st ax oc op nu hs nt wt CO CT LR LV RR RV ld cf ce be KR KV rg la ay tu tl cy sk lc R
  have hN := R.1.1
  unfold wpX_emit wpY_emit
  dsimp only
  refine sc_xok (fun hok => ?_) (fun hok => ?_)
  · obtain ⟨w, hw, rfl, hn⟩ := sc_ok_w hok
    have cl : (nI N).toNatClampNeg = N := nI_clamp (by omega)
    refine br_f (by decide) (pk_lt N 20 (fun z => ?_) (fun z => ?_))
    · have v20 : vp_in (nI N) 20 := vp_in_nI z (by omega)
      rw [cl, sc_byte2 (by omega)]
      refine ⟨v20, nm_e ⟨v20, nm_e (nm_r (nI_1 N) ?_)⟩⟩
      unfold wpX_changed
      dsimp only
      refine sc_ybad (fun _ => br_t rfl (br_t (nI_lt (b := 20) z (by omega)) ⟨v20, nm_e ⟨v20, nm_e (nm_r (nI_1 N) ?_)⟩⟩)) (fun h => absurd hok h)
      unfold wpY_forget
      dsimp only
      exact ⟨rfl, sc_ir ⟨sc_PO_u R.1 (by omega) hw hn, Or.inl rfl, Or.inl rfl, Or.inl ⟨rfl, rfl⟩⟩⟩
    · exact sc_ybad (fun _ => br_t rfl (br_f (nI_nlt (b := 20) z (by omega)) ⟨rfl, sc_ir R⟩)) (fun h => absurd hok h)
  · exact br_t rfl (sc_ybad (fun h => absurd h hok) (fun _ => br_f (by decide) ⟨rfl, sc_ir R⟩))
theorem i_vc_patch {k : Nat} {u : SX} {v : SY} (I : i_Rel k u v) (hk : k + 4 ≤ 2048) (v1 : Int32) (v2 : Int32) (v3 : Int32) : wpX_patch (fun r u' => wpY_patch (fun r' v' => r' = r ∧ i_Rel (k + 4) u' v') v v1 v2 v3) u v1 v2 v3 := by
  refine sc_el (P := fun u v => wpX_patch (fun r u' => wpY_patch (fun r' v' => r' = r ∧ i_Rel (k + 4) u' v') v v1 v2 v3) u v1 v2 v3) ?_ I
  intro N o jd cd cs kn sp st ax oc op nu hs nt wt CO CT LR LV RR RV ld cf ce be KR KV rg la ay tu tl cy sk lc R
  have hN := R.1.1
  unfold wpX_patch wpY_patch
  dsimp only
  refine sc_xinside (fun hin => br_f (by decide) ?_) (fun hout => br_t rfl ?_)
  · obtain ⟨i1, i2⟩ := id hin
    obtain ⟨p, hp, rfl⟩ := (sc_in_iff hN).mp hin
    have cl : (nI p).toNatClampNeg = p := nI_clamp (by omega)
    have v20 : vp_in (nI p) 20 := vp_in_nI (by omega) (by omega)
    refine sc_xok (fun hok => br_f (by decide) ?_) (fun hok => br_t rfl ?_)
    · obtain ⟨w, hw, rfl, hn⟩ := sc_ok_w hok
      rw [cl, sc_byte2 (by omega)]
      refine ⟨v20, nm_e ⟨v20, nm_e ?_⟩⟩
      unfold wpX_changed
      dsimp only
      refine br_f i1 (br_f i2 (sc_ybad (fun _ => br_t rfl ⟨v20, nm_e ⟨v20, nm_e ?_⟩⟩) (fun h => absurd hok h)))
      unfold wpY_forget
      dsimp only
      exact ⟨rfl, sc_ir ⟨sc_PO_u R.1 hN hw hn, Or.inl rfl, Or.inl rfl, Or.inl ⟨rfl, rfl⟩⟩⟩
    · exact br_f i1 (br_f i2 (sc_ybad (fun h => absurd h hok) (fun _ => br_f (by decide) ⟨rfl, sc_ir R⟩)))
  · by_cases a : v1 < 0
    · exact br_t a ⟨rfl, sc_ir R⟩
    · exact br_f a (br_t (Classical.byContradiction fun w => hout ⟨a, w⟩) ⟨rfl, sc_ir R⟩)
theorem i_vc_clear {k : Nat} {u : SX} {v : SY} (I : i_Rel k u v) (hk : k + 4 ≤ 2048) : wpX_clear (fun u' => wpY_clear (fun v' => i_Rel (k + 4) u' v') v) u := by
  refine sc_el (P := fun u v => wpX_clear (fun u' => wpY_clear (fun v' => i_Rel (k + 4) u' v') v) u) ?_ I
  intro N o jd cd cs kn sp st ax oc op nu hs nt wt CO CT LR LV RR RV ld cf ce be KR KV rg la ay tu tl cy sk lc R
  unfold wpX_clear wpY_clear wpX_changed wpY_forget
  dsimp only
  exact sc_ir (N := 0) (o := o) ⟨⟨by decide, R.1.2⟩, Or.inl rfl, Or.inl rfl, Or.inl ⟨rfl, rfl⟩⟩
theorem i_vc_length {k : Nat} {u : SX} {v : SY} (I : i_Rel k u v) (hk : k + 4 ≤ 2048) : wpX_length (fun r => wpY_length (fun r' => r' = r ∧ i_Rel (k + 4) u v) v) u := by
  refine sc_el (P := fun u v => wpX_length (fun r => wpY_length (fun r' => r' = r ∧ i_Rel (k + 4) u v) v) u) ?_ I
  intro N o jd cd cs kn sp st ax oc op nu hs nt wt CO CT LR LV RR RV ld cf ce be KR KV rg la ay tu tl cy sk lc R
  exact ⟨rfl, sc_ir R⟩
theorem i_vc_outcome {k : Nat} {u : SX} {v : SY} (I : i_Rel k u v) (hk : k + 4 ≤ 2048) : wpX_outcome (fun r => wpY_outcome (fun r' => r' = r ∧ i_Rel (k + 4) u v) v) u := by
  refine sc_el (P := fun u v => wpX_outcome (fun r => wpY_outcome (fun r' => r' = r ∧ i_Rel (k + 4) u v) v) u) ?_ I
  intro N o jd cd cs kn sp st ax oc op nu hs nt wt CO CT LR LV RR RV ld cf ce be KR KV rg la ay tu tl cy sk lc R
  exact ⟨rfl, sc_ir R⟩
theorem i_vc_outs {k : Nat} {u : SX} {v : SY} (I : i_Rel k u v) (hk : k + 4 ≤ 2048) : wpX_outs (fun r => wpY_outs (fun r' => r' = r ∧ i_Rel (k + 4) u v) v) u := by
  refine sc_el (P := fun u v => wpX_outs (fun r => wpY_outs (fun r' => r' = r ∧ i_Rel (k + 4) u v) v) u) ?_ I
  intro N o jd cd cs kn sp st ax oc op nu hs nt wt CO CT LR LV RR RV ld cf ce be KR KV rg la ay tu tl cy sk lc R
  exact ⟨rfl, sc_ir R⟩
theorem i_vc_lastOut {k : Nat} {u : SX} {v : SY} (I : i_Rel k u v) (hk : k + 4 ≤ 2048) (v1 : Int32) : wpX_lastOut (fun r => wpY_lastOut (fun r' => r' = r ∧ i_Rel (k + 4) u v) v v1) u v1 := by
  refine sc_el (P := fun u v => wpX_lastOut (fun r => wpY_lastOut (fun r' => r' = r ∧ i_Rel (k + 4) u v) v v1) u v1) ?_ I
  intro N o jd cd cs kn sp st ax oc op nu hs nt wt CO CT LR LV RR RV ld cf ce be KR KV rg la ay tu tl cy sk lc R
  by_cases a : v1 < 0
  · exact br_t a (br_t a ⟨rfl, sc_ir R⟩)
  · by_cases b : 7 < v1
    · exact br_f a (br_t b (br_f a (br_t b ⟨rfl, sc_ir R⟩)))
    · obtain ⟨j, hj, rfl⟩ := nI_of2 (M := 7) (n := 7) (by decide) a (Int32.not_lt.mp b)
      have v8 : vp_in (nI j) 8 := vp_in_nI (by omega) (by omega)
      by_cases c : nI j < oc
      · exact br_f a (br_f b (br_t c ⟨v8, br_f a (br_f b (br_f (fun w => absurd c (Int32.not_lt.mpr w)) ⟨v8, rfl, sc_ir R⟩))⟩))
      · exact br_f a (br_f b (br_f c (br_f a (br_f b (br_t (Int32.not_lt.mp c) ⟨rfl, sc_ir R⟩)))))
theorem i_vc_local {k : Nat} {u : SX} {v : SY} (I : i_Rel k u v) (hk : k + 4 ≤ 2048) (v1 : Int32) : wpX_local (fun r => wpY_local (fun r' => r' = r ∧ i_Rel (k + 4) u v) v v1) u v1 := by
  refine sc_el (P := fun u v => wpX_local (fun r => wpY_local (fun r' => r' = r ∧ i_Rel (k + 4) u v) v v1) u v1) ?_ I
  intro N o jd cd cs kn sp st ax oc op nu hs nt wt CO CT LR LV RR RV ld cf ce be KR KV rg la ay tu tl cy sk lc R
  have R' := R.2.2.2
  rcases R' with ⟨s0, -⟩ | ⟨s1, -, -, p, h, -, -, -, M⟩
  · exact br_t s0 (br_t s0 ⟨rfl, sc_ir R⟩)
  · by_cases a : v1 < 0
    · exact br_f s1 (br_t a (br_f s1 (br_t a ⟨rfl, sc_ir R⟩)))
    · by_cases b : v1 ≤ 3
      · obtain ⟨j, hj, rfl⟩ := nI_of2 (M := 3) (n := 3) (by decide) a b
        have cl : (nI j).toNatClampNeg = j := nI_clamp (by omega)
        refine br_f s1 (br_f a (br_t b ⟨vp_in_nI (by omega) (by omega), br_f s1 (br_f a (br_f (Int32.not_lt.mpr b) ⟨vp_in_nI (by omega) (by omega), ?_, sc_ir R⟩))⟩))
        rw [cl]
        exact (M.1 j (by omega)).symm
      · exact br_f s1 (br_f a (br_f b (br_f s1 (br_f a (br_t (Int32.not_le.mp b) ⟨rfl, sc_ir R⟩)))))
theorem i_vc_height {k : Nat} {u : SX} {v : SY} (I : i_Rel k u v) (hk : k + 4 ≤ 2048) : wpX_height (fun r => wpY_height (fun r' => r' = r ∧ i_Rel (k + 4) u v) v) u := by
  refine sc_el (P := fun u v => wpX_height (fun r => wpY_height (fun r' => r' = r ∧ i_Rel (k + 4) u v) v) u) ?_ I
  intro N o jd cd cs kn sp st ax oc op nu hs nt wt CO CT LR LV RR RV ld cf ce be KR KV rg la ay tu tl cy sk lc R
  obtain ⟨P, J, -, S⟩ := id R
  rcases S with ⟨s0, t0⟩ | ⟨s1, j1, F, p, h, rfl, t1, hr, M⟩
  · exact br_t s0 ⟨t0, sc_ir R⟩
  · have D : sc_JD N o nu hs nt := J.elim (fun z => by rw [j1] at z; exact absurd z (by decide)) (fun z => z.2)
    exact br_f s1 (sc_xheightAt D.1 F P.1 hr ⟨t1, sc_ir R⟩)
theorem i_vc_cell {k : Nat} {u : SX} {v : SY} (I : i_Rel k u v) (hk : k + 4 ≤ 2048) (v1 : Int32) : wpX_cell (fun r => wpY_cell (fun r' => r' = r ∧ i_Rel (k + 4) u v) v v1) u v1 := by
  refine sc_el (P := fun u v => wpX_cell (fun r => wpY_cell (fun r' => r' = r ∧ i_Rel (k + 4) u v) v v1) u v1) ?_ I
  intro N o jd cd cs kn sp st ax oc op nu hs nt wt CO CT LR LV RR RV ld cf ce be KR KV rg la ay tu tl cy sk lc R
  obtain ⟨P, J, -, S⟩ := id R
  by_cases a : v1 < 0
  · exact br_t a (br_t a ⟨rfl, sc_ir R⟩)
  · obtain ⟨j, hj, rfl⟩ := nI_of a
    unfold wpX_cell
    dsimp only
    refine br_f a ?_
    unfold wpX_height
    dsimp only
    rcases S with ⟨s0, t0⟩ | ⟨s1, j1, F, p, h, rfl, t1, hr, M⟩
    · exact br_t s0 (br_f a (br_f a (br_t (by rw [t0]; exact nI_pos' hj) ⟨rfl, sc_ir R⟩)))
    · have D : sc_JD N o nu hs nt := J.elim (fun z => by rw [j1] at z; exact absurd z (by decide)) (fun z => z.2)
      have h7 := (sc_R_lt hr).2
      have e4 : (4 : Int32) + nI j = nI (4 + j) := nI_add 4 j
      refine br_f s1 (sc_xheightAt D.1 F P.1 hr (pk_lt j h (fun z => ?_) (fun z => br_f a (br_t (by rw [t1]; exact nI_le z hj) ⟨rfl, sc_ir R⟩)) rfl rfl hj (by omega)))
      rw [e4]
      refine ⟨vp_in_nI (by omega) (by omega), br_f a (br_f (by rw [t1]; exact nI_ge z (by omega)) ⟨vp_in_nI (by omega) (by omega), ?_, sc_ir R⟩)⟩
      rw [nI_clamp (n := 4 + j) (by omega), nI_clamp (n := j) (by omega)]
      exact (M.2 j z).symm
theorem i_vc_fits {k : Nat} {u : SX} {v : SY} (I : i_Rel k u v) (hk : k + 4 ≤ 2048) : wpX_fits (fun r u' => wpY_fits (fun r' v' => r' = r ∧ i_Rel (k + 4) u' v') v) u := by
  refine sc_el (P := fun u v => wpX_fits (fun r u' => wpY_fits (fun r' v' => r' = r ∧ i_Rel (k + 4) u' v') v) u) ?_ I
  intro N o jd cd cs kn sp st ax oc op nu hs nt wt CO CT LR LV RR RV ld cf ce be KR KV rg la ay tu tl cy sk lc R
  obtain ⟨P, J, Cc, S⟩ := id R
  refine sc_xfits P J (fun F hs' nt' wt' D => sc_yfits P (fun _ cy' => ⟨rfl, sc_ir ⟨P, Or.inr ⟨rfl, D⟩, Cc, ?_⟩⟩) (fun nF => absurd F nF)) (fun nF jd' hs' nt' wt' J' => sc_yfits P (fun F => absurd F nF) (fun _ cy' => ⟨rfl, sc_ir ⟨P, J', Cc, ?_⟩⟩))
  · rcases S with z | ⟨s1, -, s3, s4⟩
    · exact Or.inl z
    · exact Or.inr ⟨s1, rfl, s3, s4⟩
  · rcases S with z | ⟨s1, -, s3, s4⟩
    · exact Or.inl z
    · exact absurd s3 nF
theorem i_vc_faults {k : Nat} {u : SX} {v : SY} (I : i_Rel k u v) (hk : k + 4 ≤ 2048) (v1 : Int32) : wpX_faults (fun r u' => wpY_faults (fun r' v' => r' = r ∧ i_Rel (k + 4) u' v') v v1) u v1 := by
  refine sc_el (P := fun u v => wpX_faults (fun r u' => wpY_faults (fun r' v' => r' = r ∧ i_Rel (k + 4) u' v') v v1) u v1) ?_ I
  intro N o jd cd cs kn sp st ax oc op nu hs nt wt CO CT LR LV RR RV ld cf ce be KR KV rg la ay tu tl cy sk lc R
  obtain ⟨P, J, Cc, S⟩ := id R
  have hN := P.1
  unfold wpX_faults
  dsimp only
  refine sc_xinside (fun hin => br_f (by decide) (sc_xjudge P J (fun hs' nt' wt' D => ?_))) (fun hout => br_t rfl (sc_yfaults P (fun p hp e => absurd ((sc_in_iff hN).mpr ⟨p, hp, e⟩) hout) (fun _ cy' => ⟨rfl, sc_ir R⟩)))
  obtain ⟨p, hp, rfl⟩ := (sc_in_iff hN).mp hin
  dsimp only
  refine ⟨vp_in_nI (by omega) (by omega), ?_⟩
  rw [nI_clamp (by omega), D.2 p hp]
  refine sc_yfaults P (fun q hq e cy' => ?_) (fun h => absurd hin h)
  have e' : p = q := (nI_eq (by omega) (by omega)).mp e
  subst e'
  refine ⟨rfl, sc_ir ⟨P, Or.inr ⟨rfl, D⟩, Cc, ?_⟩⟩
  rcases S with z | ⟨s1, -, s3, s4⟩
  · exact Or.inl z
  · exact Or.inr ⟨s1, rfl, s3, s4⟩
theorem i_vc_heights {k : Nat} {u : SX} {v : SY} (I : i_Rel k u v) (hk : k + 4 ≤ 2048) (v1 : Int32) : wpX_heights (fun r u' => wpY_heights (fun r' v' => r' = r ∧ i_Rel (k + 4) u' v') v v1) u v1 := by
  refine sc_el (P := fun u v => wpX_heights (fun r u' => wpY_heights (fun r' v' => r' = r ∧ i_Rel (k + 4) u' v') v v1) u v1) ?_ I
  intro N o jd cd cs kn sp st ax oc op nu hs nt wt CO CT LR LV RR RV ld cf ce be KR KV rg la ay tu tl cy sk lc R
  obtain ⟨P, J, Cc, S⟩ := id R
  have hN := P.1
  unfold wpX_heights
  dsimp only
  refine sc_xinside (fun hin => br_f (by decide) (sc_xjudge P J (fun hs' nt' wt' D => ?_))) (fun hout => br_t rfl (sc_yheights P (fun p hp e => absurd ((sc_in_iff hN).mpr ⟨p, hp, e⟩) hout) (fun _ cy' => ⟨rfl, sc_ir R⟩)))
  obtain ⟨p, hp, rfl⟩ := (sc_in_iff hN).mp hin
  dsimp only
  refine ⟨vp_in_nI (by omega) (by omega), ?_⟩
  rw [nI_clamp (by omega)]
  refine sc_yheights P (fun q hq e cy' H' => ?_) (fun h => absurd hin h)
  have e' : p = q := (nI_eq (by omega) (by omega)).mp e
  subst e'
  refine ⟨sc_HS_eq H' D.1 (by omega), sc_ir ⟨P, Or.inr ⟨rfl, D⟩, Cc, ?_⟩⟩
  rcases S with z | ⟨s1, -, s3, s4⟩
  · exact Or.inl z
  · exact Or.inr ⟨s1, rfl, s3, s4⟩
end
section
/-! run -/
section
variable {sz jd cd cs kn sp st ax oc : Int32} {op nu hs nt wt CO CT LR LV RR RV ld cf ce be KR KV rg la : Nat → Int32}
variable {ay tu tl : Int32} {cy sk lc : Nat → Int32} {N : Nat} {o : Nat → Nat} {k : Nat}
theorem sc_xrun15 {post : Int32 → SX → Prop} {x y : Int32} (k : ∀ rg : Nat → Int32, rg 0 = x → rg 1 = y → rg 2 = 0 → rg 3 = 0 → ∃ n66, wX_run_66 post n66 0 0 0 sz jd cd cs kn sp 0 ax 0 op nu hs nt wt CO CT LR LV RR RV ld cf ce be KR KV rg la) :
    ∀ (d i : Nat) (rg : Nat → Int32), i + d = 64 → (∀ j, j < i → rg j = 0) → wX_run_15 post x y sz jd cd cs kn sp st ax oc (d + 1) (nI i) op nu hs nt wt CO CT LR LV RR RV ld cf ce be KR KV rg la := by
  intro d
  induction d with
  | zero =>
    intro i rg hi hz
    refine br_t (nI_le (a := 64) (by omega) (by omega)) (nm_e (nm_e (k _ ?_ ?_ ?_ ?_)))
    · rw [pk_un (by decide), pk_us]
    · rw [pk_us]
    · rw [pk_un (by decide), pk_un (by decide)]; exact hz 2 (by omega)
    · rw [pk_un (by decide), pk_un (by decide)]; exact hz 3 (by omega)
  | succ d ih =>
    intro i rg hi hz
    refine br_f (nI_ge (b := 64) (by omega) (by omega)) ⟨vp_in_nI (by omega) (by omega), ?_⟩
    rw [nI_clamp (by omega)]
    refine nm_e (nm_r (nI_1 i) (ih (i + 1) _ (by omega) (lt_s (fun j hj => ?_) pk_us)))
    rw [pk_un (by omega)]; exact hz j hj
end
theorem i_vc_run {k : Nat} {u : SX} {v : SY} (I : i_Rel k u v) (hk : k + 4 ≤ 2048) (v1 : Int32) (v2 : Int32) : wpX_run (fun r u' => wpY_run (fun r' v' => r' = r ∧ i_Rel (k + 4) u' v') v v1 v2) u v1 v2 := by
  refine sc_el (P := fun u v => wpX_run (fun r u' => wpY_run (fun r' v' => r' = r ∧ i_Rel (k + 4) u' v') v v1 v2) u v1 v2) ?_ I
  intro N o jd cd cs kn sp st ax oc op nu hs nt wt CO CT LR LV RR RV ld cf ce be KR KV rg la ay tu tl cy sk lc R
  obtain ⟨P, J, Cc, S⟩ := id R
  have hN := P.1
  unfold wpX_run wpY_run
  dsimp only
  refine sc_xfits P J (fun F hs' nt' wt' D => br_f (by decide) (sc_xcompile P F D.1 Cc (fun cs' kn' sp' CO' CT' LR' LV' RR' RV' ld' cf' ce' be' KR' KV' C => ?_))) (fun nF jd' hs' nt' wt' J' => br_t rfl (sc_yfits P (fun F => absurd F nF) (fun _ cy' => br_t rfl ⟨rfl, sc_ir ⟨P, J', Cc, ?_⟩⟩)))
  · refine ⟨65, sc_xrun15 (fun rg' q0 q1 q2 q3 => ⟨821, ?_⟩) 64 0 rg rfl (fun j hj => by omega)⟩
    have hr0 : sc_R N o nu 0 0 := sc_R_0 F.1
    obtain ⟨d, p', h', t', b, d1, d2, d3, d4⟩ := sc_lock (jd := 1) (cd := 1) (cs := cs') (kn := kn') (sp := sp') (nt := nt') (wt := wt') (KR := KR') (KV := KV') P F D.1 C 820 0 0 0 (sk, upd (upd (upd (upd lc 0 v1) 1 v2) 2 0) 3 0, la, 0) (by decide) (by decide) hr0 C.1.1
    refine d3 _ 821 0 ax rg' (by decide) (by decide) ⟨fun i hi => ?_, fun i hi => by omega⟩ (fun rg2 M2 => ?_)
    · have h4 : i = 0 ∨ i = 1 ∨ i = 2 ∨ i = 3 := by omega
      rcases h4 with rfl | rfl | rfl | rfl
      · exact q0
      · exact q1
      · exact q2
      · exact q3
    · refine sc_yfits P (fun _ cy' => br_f (by decide) ?_) (fun nF => absurd F nF)
      unfold wpY_forget
      dsimp only
      refine nm_e (nm_e (nm_e (nm_e ⟨821, d4 cy' _ 821 0 (by decide) (by decide) ⟨rfl, ?_⟩⟩)))
      refine sc_ir ⟨P, Or.inr ⟨rfl, D⟩, Or.inr ⟨rfl, C⟩, Or.inr ⟨?_, rfl, F, p', h', rfl, rfl, d2, M2⟩⟩
      rcases d1 with rfl | rfl <;> decide
  · rcases S with z | ⟨s1, -, s3, s4⟩
    · exact Or.inl z
    · exact absurd s3 nF
end

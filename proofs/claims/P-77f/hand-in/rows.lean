section
/-! starting text: rows of kit/rows (PURE-ROWS, BITS) that this claim uses -/
theorem pk_us {f : Nat → Int32} {k : Nat} {x : Int32} : upd f k x k = x := if_pos rfl
theorem pk_un {f : Nat → Int32} {k j : Nat} {x : Int32} (h : j ≠ k) : upd f k x j = f j := if_neg h
theorem pk_uLs {f : Nat → Int64} {k : Nat} {x : Int64} : vp_updL f k x k = x := if_pos rfl
theorem pk_uLn {f : Nat → Int64} {k j : Nat} {x : Int64} (h : j ≠ k) : vp_updL f k x j = f j := if_neg h
theorem pk_sub {a b : Nat} (h : b ≤ a) : nI a - nI b = nI (a - b) := by
  obtain ⟨c, rfl⟩ : ∃ c, a = c + b := ⟨a - b, by omega⟩
  rw [← nI_add, Int32.add_sub_cancel, Nat.add_sub_cancel]
theorem pk_m1 (n : Nat) : nI (n + 1) + (-1) = nI n := by
  rw [← nI_1, Int32.add_assoc, show (1 : Int32) + (-1) = 0 from rfl, Int32.add_zero]
theorem pk_mul (a b : Nat) : nI a * nI b = nI (a * b) := (Int32.ofNat_mul a b).symm
theorem pk_ix (x : Int32) {n : Nat} (hn : n < 2 ^ 31) : x < 0 ∨ nI n ≤ x ∨ ∃ j : Nat, j < n ∧ x = nI j := by
  by_cases h : x < 0
  · exact Or.inl h
  · obtain ⟨j, hj, rfl⟩ := nI_of h
    by_cases h2 : j < n
    · exact Or.inr (Or.inr ⟨j, h2, rfl⟩)
    · exact Or.inr (Or.inl (nI_le (by omega) hj))
theorem pk_tn {n : Nat} (h : n < 2 ^ 32) : (nI n).toBitVec.toNat = n := Nat.mod_eq_of_lt h
theorem pk_and (x : Int32) {m : Int32} (k : Nat) (hm : m.toBitVec.toNat = 2 ^ k - 1) : x &&& m = nI (x.toBitVec.toNat % 2 ^ k) := by
  apply Int32.toBitVec_inj.mp
  apply BitVec.eq_of_toNat_eq
  rw [Int32.toBitVec_and, BitVec.toNat_and, hm, Nat.and_two_pow_sub_one_eq_mod]
  show _ = (BitVec.ofNat 32 _).toNat
  rw [BitVec.toNat_ofNat]
  exact (Nat.mod_eq_of_lt (Nat.lt_of_le_of_lt (Nat.mod_le _ _) x.toBitVec.isLt)).symm
theorem pk_andN {n : Nat} (h : n < 2 ^ 32) {m : Int32} (k : Nat) (hm : m.toBitVec.toNat = 2 ^ k - 1) : nI n &&& m = nI (n % 2 ^ k) := by
  rw [pk_and _ k hm, pk_tn h]
theorem pk_charN {q : Nat} (hq : q < 65536) : narrow .char (.int (nI q)) = .int (nI q) ∧ fits .char (.int (nI q)) = true := by
  constructor
  · have e : (nI q).toUInt32.toUInt16.toUInt32.toInt32 = nI q := by
      apply Int32.toBitVec_inj.mp
      apply BitVec.eq_of_toNat_eq
      show (nI q).toUInt32.toUInt16.toUInt32.toNat = q % 2 ^ 32
      rw [UInt16.toNat_toUInt32, UInt32.toNat_toUInt16, show (nI q).toUInt32.toNat = q % 2 ^ 32 from rfl]
      omega
    exact congrArg Value.int e
  · have a : (0 : Int32) ≤ nI q := nI_pos' (by omega)
    have b : nI q ≤ 65535 := nI_le (b := 65535) (by omega) (by decide)
    show (decide ((0 : Int32) ≤ nI q) && decide (nI q ≤ 65535)) = true
    rw [decide_eq_true a, decide_eq_true b]
    rfl
theorem pk_char (x : Int32) : (x.toUInt32 % 65536).toInt32 = nI (x.toBitVec.toNat % 65536) := by
  apply Int32.toBitVec_inj.mp
  apply BitVec.eq_of_toNat_eq
  rw [pk_tn (by omega)]
  show (x.toUInt32 % 65536).toNat = _
  rw [UInt32.toNat_mod]
  rfl
theorem pk_nc (x : Int32) : narrow .char (.int (x.toUInt32 % 65536).toInt32) = .int (x.toUInt32 % 65536).toInt32 := by
  rw [pk_char]
  exact (pk_charN (Nat.mod_lt _ (by decide))).1
theorem pk_vb (z : Int32) : vp_nar .byte z.toInt8.toInt32 = z.toInt8.toInt32 := by rw [vp_nar_byte]; simp
theorem pk_vs (z : Int32) : vp_nar .short z.toInt16.toInt32 = z.toInt16.toInt32 := by rw [vp_nar_short]; simp
theorem pk_vc (z : Int32) : vp_nar .char (z.toUInt32 % 65536).toInt32 = (z.toUInt32 % 65536).toInt32 := Value.int.inj (pk_nc z)
theorem pk_lT {n : Nat} (h : n < 2 ^ 63) : (lN n).toInt = (n : Int) := lg_ofNat_toInt h
theorem pk_lEQ {a b : Nat} (ha : a < 2 ^ 63) (hb : b < 2 ^ 63) : lN a = lN b ↔ a = b := by
  rw [← Int64.toInt_inj, pk_lT ha, pk_lT hb]; omega
theorem wb_tb (n : Nat) : (lN n).toBitVec = BitVec.ofNat 64 n := rfl
theorem wb_inj {a b : Int64} (h : a.toBitVec = b.toBitVec) : a = b := Int64.toBitVec_inj.mp h
theorem wb_tn {n : Nat} (h : n < 2 ^ 64) : (lN n).toBitVec.toNat = n := by rw [wb_tb, BitVec.toNat_ofNat, Nat.mod_eq_of_lt h]
theorem wb_of (x : Int64) : ∃ n, n < 2 ^ 64 ∧ x = lN n := ⟨x.toBitVec.toNat, x.toBitVec.isLt, wb_inj (by rw [wb_tb]; simp)⟩
theorem wb_of32 (x : Int32) : ∃ n, n < 2 ^ 32 ∧ x = nI n := ⟨x.toBitVec.toNat, x.toBitVec.isLt, Int32.toBitVec_inj.mp (by show _ = BitVec.ofNat 32 _; simp)⟩
theorem wb_c : ∀ k, k < 64 → ((nI k).toInt64 &&& 63) = lN k := by decide +kernel
theorem wb_cu : ∀ k, k < 64 → ((nI k).toInt64.toUInt64 &&& Int64.toUInt64 63) = UInt64.ofNat k := by decide +kernel
theorem wb_sm : ∀ k, k < 64 → (BitVec.ofNat 64 k).smod 64 = BitVec.ofNat 64 k := by decide +kernel
theorem wb_pw {a b : Nat} (h : a ≤ b) : 2 ^ b = 2 ^ a * 2 ^ (b - a) := by rw [← Nat.pow_add]; congr 1; omega
theorem wb_lt2 {a b : Nat} (h : a < b) : 2 ^ a < 2 ^ b := Nat.pow_lt_pow_right (by decide) h
theorem wb_mod (n : Nat) : lN n = lN (n % 2 ^ 64) := wb_inj (by rw [wb_tb, wb_tb]; apply BitVec.eq_of_toNat_eq; rw [BitVec.toNat_ofNat, BitVec.toNat_ofNat, Nat.mod_mod])
theorem wb_shr {n k : Nat} (hn : n < 2 ^ 64) (hk : k < 64) : ((lN n).toUInt64 >>> ((nI k).toInt64.toUInt64 &&& Int64.toUInt64 63)).toInt64 = lN (n / 2 ^ k) := by
  rw [wb_cu k hk]
  apply wb_inj
  apply BitVec.eq_of_toNat_eq
  show ((lN n).toUInt64 >>> UInt64.ofNat k).toNat = (BitVec.ofNat 64 _).toNat
  have h1 : (UInt64.ofNat k).toNat = k := by
    show (BitVec.ofNat 64 k).toNat = k
    rw [BitVec.toNat_ofNat, Nat.mod_eq_of_lt (by omega)]
  have h2 : (lN n).toUInt64.toNat = n := wb_tn hn
  rw [UInt64.toNat_shiftRight, h1, h2, Nat.mod_eq_of_lt hk, Nat.shiftRight_eq_div_pow, BitVec.toNat_ofNat, Nat.mod_eq_of_lt (Nat.lt_of_le_of_lt (Nat.div_le_self _ _) hn)]
theorem wb_shl (n : Nat) {k : Nat} (hk : k < 64) : lN n <<< ((nI k).toInt64 &&& 63) = lN (n * 2 ^ k) := by
  rw [wb_c k hk]
  apply wb_inj
  rw [Int64.toBitVec_shiftLeft, wb_tb, wb_tb, wb_tb, wb_sm k hk]
  apply BitVec.eq_of_toNat_eq
  rw [BitVec.shiftLeft_eq', BitVec.toNat_shiftLeft, BitVec.toNat_ofNat, BitVec.toNat_ofNat, BitVec.toNat_ofNat, Nat.mod_eq_of_lt (show k < 2 ^ 64 by omega), Nat.shiftLeft_eq, Nat.mul_mod, Nat.mod_mod, ← Nat.mul_mod]
theorem wb_and {a b : Nat} (ha : a < 2 ^ 64) (hb : b < 2 ^ 64) : lN a &&& lN b = lN (a &&& b) := by
  apply wb_inj
  rw [Int64.toBitVec_and, wb_tb, wb_tb, wb_tb]
  apply BitVec.eq_of_toNat_eq
  rw [BitVec.toNat_and, BitVec.toNat_ofNat, BitVec.toNat_ofNat, BitVec.toNat_ofNat, Nat.mod_eq_of_lt ha, Nat.mod_eq_of_lt hb, Nat.mod_eq_of_lt (Nat.and_lt_two_pow _ hb)]
theorem wb_or {a b : Nat} (ha : a < 2 ^ 64) (hb : b < 2 ^ 64) : lN a ||| lN b = lN (a ||| b) := by
  apply wb_inj
  rw [Int64.toBitVec_or, wb_tb, wb_tb, wb_tb]
  apply BitVec.eq_of_toNat_eq
  rw [BitVec.toNat_or, BitVec.toNat_ofNat, BitVec.toNat_ofNat, BitVec.toNat_ofNat, Nat.mod_eq_of_lt ha, Nat.mod_eq_of_lt hb, Nat.mod_eq_of_lt (Nat.or_lt_two_pow ha hb)]
theorem wb_mask {n k : Nat} (hn : n < 2 ^ 64) (hk : k < 64) : lN n &&& lN (2 ^ k - 1) = lN (n % 2 ^ k) := by
  rw [wb_and hn (by have := wb_lt2 hk; omega), Nat.and_two_pow_sub_one_eq_mod]
theorem wb_a1 {n : Nat} (hn : n < 2 ^ 64) : lN n &&& 1 = lN (n % 2) := wb_mask (k := 1) hn (by decide)
theorem wb_bit {n k : Nat} (hn : n < 2 ^ 64) (hk : k < 64) : ((lN n).toUInt64 >>> ((nI k).toInt64.toUInt64 &&& Int64.toUInt64 63)).toInt64 &&& 1 = lN (n / 2 ^ k % 2) := by
  rw [wb_shr hn hk, wb_a1 (Nat.lt_of_le_of_lt (Nat.div_le_self _ _) hn)]
end
section
/-! the type word of the reference, as a number: its parts read back -/
theorem fr_nb {w k : Nat} : (w &&& 2 ^ k = 0) ↔ w / 2 ^ k % 2 = 0 := by
  have t : w.testBit k = decide (w / 2 ^ k % 2 = 1) := Nat.testBit_eq_decide_div_mod_eq
  constructor
  · intro h
    have e := congrArg (fun x => Nat.testBit x k) h
    simp only [Nat.testBit_and, Nat.testBit_two_pow_self, Nat.zero_testBit, Bool.and_true] at e
    rw [t, decide_eq_false_iff_not] at e
    omega
  · intro h
    apply Nat.eq_of_testBit_eq
    intro i
    rw [Nat.testBit_and, Nat.testBit_two_pow, Nat.zero_testBit]
    by_cases z : k = i
    · subst z
      rw [t, decide_eq_false (by omega)]
      rfl
    · rw [decide_eq_false z, Bool.and_false]
theorem fr_bit {w k : Nat} (hw : w < 2 ^ 63) (hk : k < 63) : (lN w &&& lN (2 ^ k) = 0) ↔ w / 2 ^ k % 2 = 0 := by
  have b := wb_lt2 hk
  have e : lN w &&& lN (2 ^ k) = lN (w &&& 2 ^ k) := wb_and (by omega) (by omega)
  have z : lN (w &&& 2 ^ k) = lN 0 ↔ (w &&& 2 ^ k) = 0 := pk_lEQ (Nat.lt_of_le_of_lt Nat.and_le_right b) (by decide)
  rw [e]
  exact z.trans fr_nb
/-- the word of a type: supertype, has a supertype, is an interface, count, the three superinterfaces -/
def fr_W (s h b n : Nat) (g : Nat → Nat) : Nat := s + 8 * h + 16 * b + 256 * n + 65536 * g 0 + 16777216 * g 1 + 4294967296 * g 2
theorem fr_Wlt {s h b n : Nat} {g : Nat → Nat} (hs : s < 8) (hh : h ≤ 1) (hb : b ≤ 1) (hn : n ≤ 3) (hg : ∀ k, k < 3 → g k < 8) : fr_W s h b n g < 2 ^ 36 := by
  have g0 := hg 0 (by decide)
  have g1 := hg 1 (by decide)
  have g2 := hg 2 (by decide)
  unfold fr_W
  omega
theorem fr_rIf {s h b n : Nat} {g : Nat → Nat} (hs : s < 8) (hh : h ≤ 1) (hb : b ≤ 1) (hn : n ≤ 3) (hg : ∀ k, k < 3 → g k < 8) : (lN (fr_W s h b n g) &&& 16 = 0) ↔ b = 0 := by
  have l := fr_Wlt hs hh hb hn hg
  have e : (lN (fr_W s h b n g) &&& lN (2 ^ 4) = 0) ↔ fr_W s h b n g / 2 ^ 4 % 2 = 0 := fr_bit (by omega) (by decide)
  have e2 : (16 : Int64) = lN (2 ^ 4) := by decide +kernel
  rw [e2]
  refine e.trans ?_
  unfold fr_W
  omega
theorem fr_rHs {s h b n : Nat} {g : Nat → Nat} (hs : s < 8) (hh : h ≤ 1) (hb : b ≤ 1) (hn : n ≤ 3) (hg : ∀ k, k < 3 → g k < 8) : (lN (fr_W s h b n g) &&& 8 = 0) ↔ h = 0 := by
  have l := fr_Wlt hs hh hb hn hg
  have e : (lN (fr_W s h b n g) &&& lN (2 ^ 3) = 0) ↔ fr_W s h b n g / 2 ^ 3 % 2 = 0 := fr_bit (by omega) (by decide)
  have e2 : (8 : Int64) = lN (2 ^ 3) := by decide +kernel
  rw [e2]
  refine e.trans ?_
  unfold fr_W
  omega
/-- the count of a word -/
def fr_qC (w : Int64) : Int32 := ((w.toUInt64 >>> ((8 : Int32).toInt64.toUInt64 &&& Int64.toUInt64 63)).toInt64).toInt32 &&& 3
/-- the superinterface of a word at x -/
def fr_qI (w : Int64) (x : Int32) : Int32 := ((w.toUInt64 >>> ((16 + (8 * x)).toInt64.toUInt64 &&& Int64.toUInt64 63)).toInt64).toInt32 &&& 7
theorem fr_rC0 {w : Nat} (hw : w < 2 ^ 36) : fr_qC (lN w) = nI (w / 256 % 4) := by
  have e : ((lN w).toUInt64 >>> ((8 : Int32).toInt64.toUInt64 &&& Int64.toUInt64 63)).toInt64 = lN (w / 2 ^ 8) := wb_shr (n := w) (k := 8) (by omega) (by decide)
  have h2 : nI (w / 2 ^ 8) &&& 3 = nI (w / 2 ^ 8 % 2 ^ 2) := pk_andN (by omega) 2 (by decide)
  have h3 : w / 2 ^ 8 % 2 ^ 2 = w / 256 % 4 := rfl
  unfold fr_qC
  rw [e, lN_i, h2, h3]
theorem fr_rC {s h b n : Nat} {g : Nat → Nat} (hs : s < 8) (hh : h ≤ 1) (hb : b ≤ 1) (hn : n ≤ 3) (hg : ∀ k, k < 3 → g k < 8) : fr_qC (lN (fr_W s h b n g)) = nI n := by
  rw [fr_rC0 (fr_Wlt hs hh hb hn hg)]
  refine congrArg nI ?_
  unfold fr_W
  omega
theorem fr_rS {s h b n : Nat} {g : Nat → Nat} (hs : s < 8) (hh : h ≤ 1) (hb : b ≤ 1) (hn : n ≤ 3) (hg : ∀ k, k < 3 → g k < 8) : (lN (fr_W s h b n g)).toInt32 &&& 7 = nI s := by
  have t : (nI (fr_W s h b n g)).toBitVec.toNat = fr_W s h b n g % 2 ^ 32 := BitVec.toNat_ofNat _ _
  have e : nI (fr_W s h b n g) &&& 7 = nI ((nI (fr_W s h b n g)).toBitVec.toNat % 2 ^ 3) := pk_and _ 3 (by decide)
  rw [lN_i, e, t]
  refine congrArg nI ?_
  unfold fr_W
  omega
theorem fr_16 (k : Nat) : (16 : Int32) + 8 * nI k = nI (16 + 8 * k) := by
  rw [← nI_add, ← pk_mul]
  rfl
theorem fr_k3 {k : Nat} (h : k < 3) : k = 0 ∨ k = 1 ∨ k = 2 := by omega
theorem fr_rI0 {w k : Nat} (hw : w < 2 ^ 36) (hk : k < 3) : fr_qI (lN w) (nI k) = nI (w / 2 ^ (16 + 8 * k) % 8) := by
  have d : w / 2 ^ (16 + 8 * k) < 2 ^ 32 := by
    refine Nat.lt_of_le_of_lt (Nat.div_le_div_left (c := 2 ^ 16) (Nat.pow_le_pow_right (by decide) (by omega)) (by decide)) ?_
    omega
  have e : ((lN w).toUInt64 >>> ((nI (16 + 8 * k)).toInt64.toUInt64 &&& Int64.toUInt64 63)).toInt64 = lN (w / 2 ^ (16 + 8 * k)) := wb_shr (by omega) (by omega)
  have h2 : nI (w / 2 ^ (16 + 8 * k)) &&& 7 = nI (w / 2 ^ (16 + 8 * k) % 2 ^ 3) := pk_andN d 3 (by decide)
  unfold fr_qI
  rw [fr_16, e, lN_i, h2]
theorem fr_rI {s h b n : Nat} {g : Nat → Nat} (hs : s < 8) (hh : h ≤ 1) (hb : b ≤ 1) (hn : n ≤ 3) (hg : ∀ k, k < 3 → g k < 8) {k : Nat} (hk : k < 3) : fr_qI (lN (fr_W s h b n g)) (nI k) = nI (g k) := by
  have g0 := hg 0 (by decide)
  have g1 := hg 1 (by decide)
  have g2 := hg 2 (by decide)
  rw [fr_rI0 (fr_Wlt hs hh hb hn hg) hk]
  refine congrArg nI ?_
  unfold fr_W
  rcases fr_k3 hk with rfl | rfl | rfl
  · show _ / 65536 % 8 = _
    omega
  · show _ / 16777216 % 8 = _
    omega
  · show _ / 4294967296 % 8 = _
    omega
/-- a new type's word -/
theorem fr_w0 : ∀ s, s < 8 → ((0 : Int64) ||| (8 ||| (nI s).toInt64)) = lN (fr_W s 1 0 0 (fun _ => 0)) := by decide +kernel
theorem fr_w1 : ∀ s, s < 8 → ((16 : Int64) ||| (8 ||| (nI s).toInt64)) = lN (fr_W s 1 1 0 (fun _ => 0)) := by decide +kernel
/-- one more superinterface -/
def fr_g (g : Nat → Nat) (n i : Nat) : Nat → Nat := fun j => if j = n then i else g j
theorem fr_add {s h b n i : Nat} {g : Nat → Nat} (hn : n < 3) (hi : i < 8) (h0 : g n = 0) : lN (fr_W s h b n g) + (256 + ((nI i).toInt64 <<< ((16 + (8 * nI n)).toInt64 &&& 63))) = lN (fr_W s h b (n + 1) (fr_g g n i)) := by
  have e : lN i <<< ((nI (16 + 8 * n)).toInt64 &&& 63) = lN (i * 2 ^ (16 + 8 * n)) := wb_shl i (by omega)
  have e2 : (256 : Int64) = lN 256 := by decide +kernel
  rw [fr_16, nI_l (by omega), e, e2, lN_add, lN_add]
  refine congrArg lN ?_
  unfold fr_W fr_g
  rcases fr_k3 hn with rfl | rfl | rfl
  · show _ + (256 + i * 65536) = _ + 65536 * i + 16777216 * g 1 + 4294967296 * g 2
    omega
  · show _ + (256 + i * 16777216) = _ + 65536 * g 0 + 16777216 * i + 4294967296 * g 2
    omega
  · show _ + (256 + i * 4294967296) = _ + 65536 * g 0 + 16777216 * g 1 + 4294967296 * i
    omega
end
section
/-! the relation: fields and stack are the same functions; each type of X against its word -/
def fr_C (c : Nat) (SU IF IC IB : Nat → Int32) (CL : Nat → Int64) : Prop :=
  ∃ s h b n : Nat, ∃ g : Nat → Nat, (s < 8 ∧ h ≤ 1 ∧ b ≤ 1 ∧ n ≤ 3 ∧ (∀ k, k < 3 → g k < 8) ∧ (∀ k, n ≤ k → k < 3 → g k = 0)) ∧ CL c = lN (fr_W s h b n g) ∧ IB c = nI b ∧ IC c = nI n ∧ (h = 0 ↔ c = 0) ∧ (0 < c → SU c = nI s ∧ s < c) ∧ (∀ k, k < n → IF (c * 3 + k) = nI (g k) ∧ g k < c)
def fr_F (j : Nat) (OW DS FL : Nat → Int32) : Prop := (∃ o, o < 8 ∧ OW j = nI o) ∧ (∃ q, q < 65536 ∧ DS j = nI q) ∧ (∃ q, q < 65536 ∧ FL j = nI q)
/-- the relation at the head of a turn -/
def i_Rel (k : Nat) (u : SX) (v : SY) : Prop :=
  ∃ nc nf : Nat, ∃ SU IF IC IB OW NM DS FL ST : Nat → Int32, ∃ CL : Nat → Int64, u = (nI nc, nI nf, SU, IF, IC, IB, OW, NM, DS, FL, ST) ∧ v = (nI nc, nI nf, CL, NM, DS, FL, OW, ST) ∧ nc ≤ 8 ∧ nf ≤ 6 ∧ (∀ c, c < nc → fr_C c SU IF IC IB CL) ∧ (∀ j, j < nf → fr_F j OW DS FL)
theorem fr_mk {k nc nf : Nat} {SU IF IC IB OW NM DS FL ST : Nat → Int32} {CL : Nat → Int64} (hc : nc ≤ 8) (hf : nf ≤ 6) (hC : ∀ c, c < nc → fr_C c SU IF IC IB CL) (hF : ∀ j, j < nf → fr_F j OW DS FL) : i_Rel k (nI nc, nI nf, SU, IF, IC, IB, OW, NM, DS, FL, ST) (nI nc, nI nf, CL, NM, DS, FL, OW, ST) :=
  ⟨nc, nf, SU, IF, IC, IB, OW, NM, DS, FL, ST, CL, rfl, rfl, hc, hf, hC, hF⟩
/-- a type's facts rest on what is read of it -/
theorem fr_Ck {c : Nat} {SU IF IC IB SU' IF' IC' IB' : Nat → Int32} {CL CL' : Nat → Int64} (h : fr_C c SU IF IC IB CL) (h1 : SU' c = SU c) (h2 : ∀ k, k < 3 → IF' (c * 3 + k) = IF (c * 3 + k)) (h3 : IC' c = IC c) (h4 : IB' c = IB c) (h5 : CL' c = CL c) : fr_C c SU' IF' IC' IB' CL' := by
  obtain ⟨s, h, b, n, g, ⟨a1, a2, a3, a4, a5, a6⟩, e1, e2, e3, e4, e5, e6⟩ := h
  refine ⟨s, h, b, n, g, ⟨a1, a2, a3, a4, a5, a6⟩, h5.trans e1, h4.trans e2, h3.trans e3, e4, fun z => ⟨h1.trans (e5 z).1, (e5 z).2⟩, fun k hk => ⟨(h2 k (by omega)).trans (e6 k hk).1, (e6 k hk).2⟩⟩
theorem fr_if {c : Nat} {SU IF IC IB : Nat → Int32} {CL : Nat → Int64} (h : fr_C c SU IF IC IB CL) : (CL c &&& 16 = 0) ↔ IB c = 0 := by
  obtain ⟨s, h, b, n, g, ⟨a1, a2, a3, a4, a5, a6⟩, e1, e2, e3, e4, e5, e6⟩ := h
  rw [e1, e2]
  refine (fr_rIf a1 a2 a3 a4 a5).trans ?_
  exact (nI_eq (b := 0) (by omega) (by decide)).symm
theorem fr_hs {c : Nat} {SU IF IC IB : Nat → Int32} {CL : Nat → Int64} (h : fr_C c SU IF IC IB CL) : (CL c &&& 8 = 0) ↔ c = 0 := by
  obtain ⟨s, h, b, n, g, ⟨a1, a2, a3, a4, a5, a6⟩, e1, e2, e3, e4, e5, e6⟩ := h
  rw [e1]
  exact (fr_rHs a1 a2 a3 a4 a5).trans e4
theorem fr_su {c : Nat} {SU IF IC IB : Nat → Int32} {CL : Nat → Int64} (h : fr_C c SU IF IC IB CL) (hc : 0 < c) : ∃ s, s < c ∧ SU c = nI s ∧ (CL c).toInt32 &&& 7 = nI s := by
  obtain ⟨s, h, b, n, g, ⟨a1, a2, a3, a4, a5, a6⟩, e1, e2, e3, e4, e5, e6⟩ := h
  refine ⟨s, (e5 hc).2, (e5 hc).1, ?_⟩
  rw [e1]
  exact fr_rS a1 a2 a3 a4 a5
theorem fr_ic {c : Nat} {SU IF IC IB : Nat → Int32} {CL : Nat → Int64} (h : fr_C c SU IF IC IB CL) : ∃ n, n ≤ 3 ∧ IC c = nI n ∧ fr_qC (CL c) = nI n ∧ (∀ k, k < n → ∃ i, i < c ∧ IF (c * 3 + k) = nI i ∧ fr_qI (CL c) (nI k) = nI i) := by
  obtain ⟨s, h, b, n, g, ⟨a1, a2, a3, a4, a5, a6⟩, e1, e2, e3, e4, e5, e6⟩ := h
  refine ⟨n, a4, e3, ?_, fun k hk => ⟨g k, (e6 k hk).2, (e6 k hk).1, ?_⟩⟩
  · rw [e1]
    exact fr_rC a1 a2 a3 a4 a5
  · rw [e1]
    exact fr_rI a1 a2 a3 a4 a5 (by omega)
theorem i_up {k : Nat} {u : SX} {v : SY} (h : i_Rel k u v) : i_Rel (k + 5) u v := h
theorem i_vc0 : wpX_init (fun u => wpY_init (fun v => i_Rel 0 u v)) :=
  fr_mk (k := 0) (nc := 0) (nf := 0) (by decide) (by decide) (fun _ h => absurd h (Nat.not_lt_zero _)) (fun _ h => absurd h (Nat.not_lt_zero _))
end
section
/-! the two reading methods, and addClass -/
theorem fr_ge {x : Int32} {n : Nat} (hn : n < 2 ^ 31) (h : nI n ≤ x) : ¬ x < 0 := Int32.not_lt.mpr (Int32.le_trans (nI_pos' hn) h)
theorem i_vc_declaringClass {k : Nat} {u : SX} {v : SY} (I : i_Rel k u v) (hk : k + 5 ≤ 2560) (v1 : Int32) : wpX_declaringClass (fun r => wpY_declaringClass (fun r' => r' = r ∧ i_Rel (k + 5) u v) v v1) u v1 := by
  obtain ⟨nc, nf, SU, IF, IC, IB, OW, NM, DS, FL, ST, CL, rfl, rfl, hc, hf, hC, hF⟩ := I
  have J : i_Rel (k + 5) (nI nc, nI nf, SU, IF, IC, IB, OW, NM, DS, FL, ST) (nI nc, nI nf, CL, NM, DS, FL, OW, ST) := fr_mk hc hf hC hF
  rcases pk_ix v1 (n := nf) (by omega) with h | h | ⟨j, hj, rfl⟩
  · exact br_t h (br_t h ⟨rfl, J⟩)
  · have n0 := fr_ge (by omega) h
    have n1 : ¬ v1 < nI nf := Int32.not_lt.mpr h
    exact br_f n0 (br_f n1 (br_f n0 (br_f n1 ⟨rfl, J⟩)))
  · have n0 : ¬ nI j < 0 := nI_pos (by omega)
    have n1 : nI j < nI nf := nI_lt hj (by omega)
    have hi : vp_in (nI j) 6 := vp_in_nI (by omega) (by decide)
    exact br_f n0 (br_t n1 ⟨hi, br_f n0 (br_t n1 ⟨hi, rfl, J⟩)⟩)
theorem fr_m16 {q : Nat} (h : q < 65536) : (nI q).toInt64 &&& 65535 = (nI q).toInt64 := by
  have e : lN q &&& lN (2 ^ 16 - 1) = lN (q % 2 ^ 16) := wb_mask (by omega) (by decide)
  have e2 : (65535 : Int64) = lN (2 ^ 16 - 1) := by decide +kernel
  rw [nI_l (by omega), e2, e, Nat.mod_eq_of_lt h]
theorem fr_fw {f n d o : Int32} (a b c : Int64) (hf : f.toInt64 &&& 65535 = f.toInt64) (hd : d.toInt64 &&& 65535 = d.toInt64) (ho : o.toInt64 &&& 65535 = o.toInt64) : (((f.toInt64 <<< a) ||| ((n &&& 65535).toInt64 <<< b)) ||| (d.toInt64 <<< c)) ||| o.toInt64 = ((((f.toInt64 &&& 65535) <<< a) ||| ((n.toInt64 &&& 65535) <<< b)) ||| ((d.toInt64 &&& 65535) <<< c)) ||| (o.toInt64 &&& 65535) := by
  have e : (65535 : Int32).toInt64 = 65535 := by decide +kernel
  rw [Int32.toInt64_and, e, hf, hd, ho]
theorem i_vc_fieldWord {k : Nat} {u : SX} {v : SY} (I : i_Rel k u v) (hk : k + 5 ≤ 2560) (v1 : Int32) : wpX_fieldWord (fun r => wpY_fieldWord (fun r' => r' = r ∧ i_Rel (k + 5) u v) v v1) u v1 := by
  obtain ⟨nc, nf, SU, IF, IC, IB, OW, NM, DS, FL, ST, CL, rfl, rfl, hc, hf, hC, hF⟩ := I
  have J : i_Rel (k + 5) (nI nc, nI nf, SU, IF, IC, IB, OW, NM, DS, FL, ST) (nI nc, nI nf, CL, NM, DS, FL, OW, ST) := fr_mk hc hf hC hF
  rcases pk_ix v1 (n := nf) (by omega) with h | h | ⟨j, hj, rfl⟩
  · exact br_t h (br_t h ⟨rfl, J⟩)
  · have n0 := fr_ge (by omega) h
    have n1 : ¬ v1 < nI nf := Int32.not_lt.mpr h
    exact br_f n0 (br_f n1 (br_f n0 (br_f n1 ⟨rfl, J⟩)))
  · have n0 : ¬ nI j < 0 := nI_pos (by omega)
    have n1 : nI j < nI nf := nI_lt hj (by omega)
    have hi : vp_in (nI j) 6 := vp_in_nI (by omega) (by decide)
    have e : (nI j).toNatClampNeg = j := nI_clamp (by omega)
    obtain ⟨⟨o, ho, eo⟩, ⟨d, hd, ed⟩, ⟨f, hff, ef⟩⟩ := hF j hj
    have m1 : (FL (nI j).toNatClampNeg).toInt64 &&& 65535 = (FL (nI j).toNatClampNeg).toInt64 := by rw [e, ef]; exact fr_m16 hff
    have m2 : (DS (nI j).toNatClampNeg).toInt64 &&& 65535 = (DS (nI j).toNatClampNeg).toInt64 := by rw [e, ed]; exact fr_m16 hd
    have m3 : (OW (nI j).toNatClampNeg).toInt64 &&& 65535 = (OW (nI j).toNatClampNeg).toInt64 := by rw [e, eo]; exact fr_m16 (by omega)
    exact br_f n0 (br_t n1 ⟨hi, nm_e ⟨hi, nm_e ⟨hi, nm_e ⟨hi, nm_e (br_f n0 (br_t n1 ⟨hi, hi, hi, hi, fr_fw _ _ _ m1 m2 m3, J⟩))⟩⟩⟩⟩)
/-- the word that the reference stores for a new type -/
theorem fr_y77 {nc : Nat} (v1 q : Int32) (hq : q = 0 ∨ q = 1) (hv : (nc = 0 ∧ v1 = -1 ∧ q = 0) ∨ (0 < nc ∧ ∃ s, s < nc ∧ v1 = nI s)) (hnc : nc < 8) : ∃ s h b : Nat, (s < 8 ∧ h ≤ 1 ∧ b ≤ 1) ∧ vp_nar .boolean q = nI b ∧ (h = 0 ↔ nc = 0) ∧ (0 < nc → v1 = nI s ∧ s < nc) ∧ ∀ (post : Int32 → SY → Prop) (fc ff : Int32) (CL : Nat → Int64) (NM DS FL OW ST : Nat → Int32), wY_addClass_102 post (lN (fr_W s h b 0 (fun _ => 0))) fc ff CL NM DS FL OW ST → wY_addClass_77 post v1 q fc ff CL NM DS FL OW ST := by
  rcases hv with ⟨z, rfl, rfl⟩ | ⟨z, s, hs, rfl⟩
  · refine ⟨0, 0, 0, ⟨by decide, by decide, by decide⟩, rfl, ⟨fun _ => z, fun _ => rfl⟩, fun y => by omega, ?_⟩
    intro post fc ff CL NM DS FL OW ST h
    have e : lN (fr_W 0 0 0 0 (fun _ => 0)) = 0 := by decide +kernel
    rw [e] at h
    exact br_t rfl (br_t (by decide) h)
  · rcases hq with rfl | rfl
    · refine ⟨s, 1, 0, ⟨by omega, by decide, by decide⟩, rfl, ⟨fun y => by omega, fun y => by omega⟩, fun y => ⟨rfl, hs⟩, ?_⟩
      intro post fc ff CL NM DS FL OW ST h
      exact br_t rfl (br_f (nI_pos (by omega)) (nm_r (fr_w0 s (by omega)) h))
    · refine ⟨s, 1, 1, ⟨by omega, by decide, by decide⟩, rfl, ⟨fun y => by omega, fun y => by omega⟩, fun y => ⟨rfl, hs⟩, ?_⟩
      intro post fc ff CL NM DS FL OW ST h
      exact br_f (by decide) (br_f (nI_pos (by omega)) (nm_r (fr_w1 s (by omega)) h))
theorem fr_ac {k nc nf : Nat} {SU IF IC IB OW NM DS FL ST : Nat → Int32} {CL : Nat → Int64} (hc : nc < 8) (hf : nf ≤ 6) (hC : ∀ c, c < nc → fr_C c SU IF IC IB CL) (hF : ∀ j, j < nf → fr_F j OW DS FL) {v1 q : Int32} (hq : q = 0 ∨ q = 1) (hv : (nc = 0 ∧ v1 = -1 ∧ q = 0) ∨ (0 < nc ∧ ∃ s, s < nc ∧ v1 = nI s)) (H : ∀ post : Int32 → SY → Prop, wY_addClass_77 post v1 q (nI nc) (nI nf) CL NM DS FL OW ST → wpY_addClass post (nI nc, nI nf, CL, NM, DS, FL, OW, ST) v1 q) : wX_addClass_71 (fun r u' => wpY_addClass (fun r' v' => r' = r ∧ i_Rel k u' v') (nI nc, nI nf, CL, NM, DS, FL, OW, ST) v1 q) v1 q (nI nc) (nI nf) SU IF IC IB OW NM DS FL ST := by
  obtain ⟨s, h, b, ⟨a1, a2, a3⟩, e1, e2, e3, Y⟩ := fr_y77 v1 q hq hv hc
  have hi : vp_in (nI nc) 8 := vp_in_nI hc (by decide)
  have e : (nI nc).toNatClampNeg = nc := nI_clamp (by omega)
  unfold wX_addClass_71
  rw [e, nI_1, e1]
  refine ⟨hi, nm_e ⟨hi, nm_e ⟨hi, nm_e (nm_e (H _ (Y _ _ _ _ _ _ _ _ _ ?_)))⟩⟩⟩
  unfold wY_addClass_102
  rw [e, nI_1]
  refine ⟨hi, nm_e (nm_e ⟨rfl, fr_mk (by omega) hf ?_ hF⟩)⟩
  intro c hc'
  by_cases z : c = nc
  · subst z
    exact ⟨s, h, b, 0, fun _ => 0, ⟨a1, a2, a3, by omega, fun _ _ => Nat.zero_lt_succ 7, fun _ _ _ => rfl⟩, pk_uLs, pk_us, pk_us, e2, fun z => ⟨pk_us.trans (e3 z).1, (e3 z).2⟩, fun k hk => absurd hk (Nat.not_lt_zero _)⟩
  · exact fr_Ck (hC c (by omega)) (pk_un z) (fun _ _ => rfl) (pk_un z) (pk_un z) (pk_uLn z)
theorem i_vc_addClass {k : Nat} {u : SX} {v : SY} (I : i_Rel k u v) (hk : k + 5 ≤ 2560) (v1 : Int32) (v2 : Int32) : wpX_addClass (fun r u' => wpY_addClass (fun r' v' => r' = r ∧ i_Rel (k + 5) u' v') v v1 (lw_bz v2)) u v1 (lw_bz v2) := by
  obtain ⟨nc, nf, SU, IF, IC, IB, OW, NM, DS, FL, ST, CL, rfl, rfl, hc, hf, hC, hF⟩ := I
  have J : i_Rel (k + 5) (nI nc, nI nf, SU, IF, IC, IB, OW, NM, DS, FL, ST) (nI nc, nI nf, CL, NM, DS, FL, OW, ST) := fr_mk hc hf hC hF
  have hq := lw_bz_01 v2
  generalize lw_bz v2 = q at hq ⊢
  by_cases h8 : nc < 8
  · have c8 : nI nc < 8 := nI_lt (b := 8) h8 (by decide)
    by_cases h0 : nc = 0
    · have c0 : nI nc = 0 := by rw [h0]; rfl
      by_cases h1 : v1 = -1
      · rcases hq with rfl | rfl
        · exact br_t c8 (br_t c0 (br_t h1 (br_t rfl (fr_ac h8 hf hC hF (Or.inl rfl) (Or.inl ⟨h0, h1, rfl⟩) (fun post y => br_t c8 (br_t c0 (br_t h1 (br_t rfl y))))))))
        · have q1 : ¬ (1 : Int32) = 0 := by decide
          exact br_t c8 (br_t c0 (br_t h1 (br_f q1 (br_t c8 (br_t c0 (br_t h1 (br_f q1 ⟨rfl, J⟩)))))))
      · exact br_t c8 (br_t c0 (br_f h1 (br_t c8 (br_t c0 (br_f h1 ⟨rfl, J⟩)))))
    · have c0 : ¬ nI nc = 0 := nI_ne0 (by omega) (by omega)
      rcases pk_ix v1 (n := nc) (by omega) with h | h | ⟨s, hs, rfl⟩
      · exact br_t c8 (br_f c0 (br_t h (br_t c8 (br_f c0 (br_t h ⟨rfl, J⟩)))))
      · have n0 := fr_ge (by omega) h
        have n1 : ¬ v1 < nI nc := Int32.not_lt.mpr h
        exact br_t c8 (br_f c0 (br_f n0 (br_f n1 (br_t c8 (br_f c0 (br_f n0 (br_f n1 ⟨rfl, J⟩)))))))
      · have n0 : ¬ nI s < 0 := nI_pos (by omega)
        have n1 : nI s < nI nc := nI_lt hs (by omega)
        have hi : vp_in (nI s) 8 := vp_in_nI (by omega) (by decide)
        have e : (nI s).toNatClampNeg = s := nI_clamp (by omega)
        have hw : (CL (nI s).toNatClampNeg &&& 16 = 0) ↔ IB (nI s).toNatClampNeg = 0 := by rw [e]; exact fr_if (hC s hs)
        have hv : (nc = 0 ∧ nI s = -1 ∧ q = 0) ∨ (0 < nc ∧ ∃ t, t < nc ∧ nI s = nI t) := Or.inr ⟨by omega, s, hs, rfl⟩
        by_cases hb : IB (nI s).toNatClampNeg = 0
        · have hy := hw.mpr hb
          by_cases q0 : q = 0
          · exact br_t c8 (br_f c0 (br_f n0 (br_t n1 ⟨hi, br_t hb (br_t q0 (fr_ac h8 hf hC hF hq hv (fun post y => br_t c8 (br_f c0 (br_f n0 (br_t n1 ⟨hi, br_t hy (br_t q0 y)⟩))))))⟩)))
          · by_cases s0 : nI s = 0
            · exact br_t c8 (br_f c0 (br_f n0 (br_t n1 ⟨hi, br_t hb (br_f q0 (br_t s0 (fr_ac h8 hf hC hF hq hv (fun post y => br_t c8 (br_f c0 (br_f n0 (br_t n1 ⟨hi, br_t hy (br_f q0 (br_t s0 y))⟩)))))))⟩)))
            · exact br_t c8 (br_f c0 (br_f n0 (br_t n1 ⟨hi, br_t hb (br_f q0 (br_f s0 (br_t c8 (br_f c0 (br_f n0 (br_t n1 ⟨hi, br_t hy (br_f q0 (br_f s0 ⟨rfl, J⟩))⟩))))))⟩)))
        · have hy : ¬ CL (nI s).toNatClampNeg &&& 16 = 0 := fun z => hb (hw.mp z)
          exact br_t c8 (br_f c0 (br_f n0 (br_t n1 ⟨hi, br_f hb (br_t c8 (br_f c0 (br_f n0 (br_t n1 ⟨hi, br_f hy ⟨rfl, J⟩⟩))))⟩)))
  · have c8 : ¬ nI nc < 8 := nI_nlt (b := 8) (by omega) (by omega)
    exact br_f c8 (br_f c8 ⟨rfl, J⟩)
end
section
/-! addIface -/
theorem fr_x3 (c k : Nat) : nI c * 3 + nI k = nI (c * 3 + k) := by
  rw [← nI_add, ← pk_mul]
  rfl
theorem fr_dup {n c i : Nat} {SU IF IC IB OW NM DS FL ST : Nat → Int32} {CL : Nat → Int64} {fc ff : Int32} (hn : n ≤ 3) (hc : c < 8) (hR : ∀ k, k < n → ∃ x, x < c ∧ IF (c * 3 + k) = nI x ∧ fr_qI (CL c) (nI k) = nI x) : ∀ d j : Nat, j + d = n →
    ((∀ post : Int32 → SX → Prop, post (-6) (fc, ff, SU, IF, IC, IB, OW, NM, DS, FL, ST) → wX_addIface_57 post (nI c) (nI i) (nI n) fc ff SU IF IC IB OW NM DS FL ST (d + 1) (nI j)) ∧ (∀ post : Int32 → SY → Prop, post (-6) (fc, ff, CL, NM, DS, FL, OW, ST) → wY_addIface_69 post (nI c) (nI i) (nI n) fc ff CL NM DS FL OW ST (d + 1) (nI j)))
    ∨ ((∀ post : Int32 → SX → Prop, wX_addIface_57 post (nI c) (nI i) (nI n) fc ff SU IF IC IB OW NM DS FL ST 1 (nI n) → wX_addIface_57 post (nI c) (nI i) (nI n) fc ff SU IF IC IB OW NM DS FL ST (d + 1) (nI j)) ∧ (∀ post : Int32 → SY → Prop, wY_addIface_69 post (nI c) (nI i) (nI n) fc ff CL NM DS FL OW ST 1 (nI n) → wY_addIface_69 post (nI c) (nI i) (nI n) fc ff CL NM DS FL OW ST (d + 1) (nI j))) := by
  intro d
  induction d with
  | zero =>
    intro j hj
    have e : j = n := by omega
    subst e
    exact Or.inr ⟨fun _ h => h, fun _ h => h⟩
  | succ d ih =>
    intro j hj
    have hlt : ¬ nI n ≤ nI j := nI_ge (by omega) (by omega)
    have h24 : vp_in (nI c * 3 + nI j) 24 := by
      rw [fr_x3]
      exact vp_in_nI (by omega) (by decide)
    have h8 : vp_in (nI c) 8 := vp_in_nI hc (by decide)
    obtain ⟨x, hx, f1, f2⟩ := hR j (by omega)
    have hX : IF (nI c * 3 + nI j).toNatClampNeg = nI x := by rw [fr_x3, nI_clamp (by omega)]; exact f1
    have hY : fr_qI (CL (nI c).toNatClampNeg) (nI j) = nI x := by rw [nI_clamp (by omega)]; exact f2
    by_cases z : nI x = nI i
    · exact Or.inl ⟨fun post h => br_f hlt ⟨h24, br_t (hX.trans z) h⟩, fun post h => br_f hlt ⟨h8, br_t (hY.trans z) h⟩⟩
    · have zX : ¬ IF (nI c * 3 + nI j).toNatClampNeg = nI i := fun y => z (hX.symm.trans y)
      have zY : ¬ fr_qI (CL (nI c).toNatClampNeg) (nI j) = nI i := fun y => z (hY.symm.trans y)
      rcases ih (j + 1) (by omega) with ⟨a, b⟩ | ⟨a, b⟩
      · exact Or.inl ⟨fun post h => br_f hlt ⟨h24, br_f zX (nm_r (nI_1 j) (a post h))⟩, fun post h => br_f hlt ⟨h8, br_f zY (nm_r (nI_1 j) (b post h))⟩⟩
      · exact Or.inr ⟨fun post h => br_f hlt ⟨h24, br_f zX (nm_r (nI_1 j) (a post h))⟩, fun post h => br_f hlt ⟨h8, br_f zY (nm_r (nI_1 j) (b post h))⟩⟩
theorem fr_new {c i n : Nat} {SU IF IC IB : Nat → Int32} {CL : Nat → Int64} (h : fr_C c SU IF IC IB CL) (hc : c < 8) (hn : n < 3) (e : IC c = nI n) (hi : i < c) : ∃ w : Int64, CL c + (256 + ((nI i).toInt64 <<< ((16 + (8 * nI n)).toInt64 &&& 63))) = w ∧ fr_qC w - 1 = nI n ∧ fr_C c SU (upd IF (c * 3 + n) (nI i)) (upd IC c (nI (n + 1))) IB (vp_updL CL c w) := by
  obtain ⟨s, h, b, m, g, ⟨a1, a2, a3, a4, a5, a6⟩, e1, e2, e3, e4, e5, e6⟩ := h
  have em : m = n := (nI_eq (by omega) (by omega)).mp (e3.symm.trans e)
  subst em
  have hg : ∀ k, k < 3 → fr_g g m i k < 8 := by
    intro k hk
    unfold fr_g
    by_cases z : k = m
    · rw [if_pos z]
      omega
    · rw [if_neg z]
      exact a5 k hk
  refine ⟨lN (fr_W s h b (m + 1) (fr_g g m i)), ?_, ?_, ?_⟩
  · rw [e1]
    exact fr_add hn (by omega) (a6 m (Nat.le_refl m) hn)
  · rw [fr_rC a1 a2 a3 (by omega) hg]
    exact nI_pred m
  · refine ⟨s, h, b, m + 1, fr_g g m i, ⟨a1, a2, a3, by omega, hg, ?_⟩, pk_uLs, e2, pk_us, e4, e5, ?_⟩
    · intro k h1 h2
      unfold fr_g
      rw [if_neg (by omega)]
      exact a6 k (by omega) h2
    · intro k hk
      unfold fr_g
      by_cases z : k = m
      · subst z
        rw [if_pos rfl]
        exact ⟨pk_us, hi⟩
      · rw [if_neg z, pk_un (by omega)]
        exact e6 k (by omega)
theorem i_vc_addIface {k : Nat} {u : SX} {v : SY} (I : i_Rel k u v) (hk : k + 5 ≤ 2560) (v1 : Int32) (v2 : Int32) : wpX_addIface (fun r u' => wpY_addIface (fun r' v' => r' = r ∧ i_Rel (k + 5) u' v') v v1 v2) u v1 v2 := by
  obtain ⟨nc, nf, SU, IF, IC, IB, OW, NM, DS, FL, ST, CL, rfl, rfl, hc, hf, hC, hF⟩ := I
  have J : i_Rel (k + 5) (nI nc, nI nf, SU, IF, IC, IB, OW, NM, DS, FL, ST) (nI nc, nI nf, CL, NM, DS, FL, OW, ST) := fr_mk hc hf hC hF
  rcases pk_ix v1 (n := nc) (by omega) with h | h | ⟨c, hcc, rfl⟩
  · exact br_t h (br_t h ⟨rfl, J⟩)
  · have n0 := fr_ge (by omega) h
    exact br_f n0 (br_t h (br_f n0 (br_t h ⟨rfl, J⟩)))
  have a0 : ¬ nI c < 0 := nI_pos (by omega)
  have a1 : ¬ nI nc ≤ nI c := nI_ge hcc (by omega)
  rcases pk_ix v2 (n := nc) (by omega) with h | h | ⟨i, hii, rfl⟩
  · exact br_f a0 (br_f a1 (br_t h (br_f a0 (br_f a1 (br_t h ⟨rfl, J⟩)))))
  · have n0 := fr_ge (by omega) h
    have n1 : ¬ v2 < nI nc := Int32.not_lt.mpr h
    exact br_f a0 (br_f a1 (br_f n0 (br_f n1 (br_f a0 (br_f a1 (br_f n0 (br_f n1 ⟨rfl, J⟩)))))))
  have b0 : ¬ nI i < 0 := nI_pos (by omega)
  have b1 : nI i < nI nc := nI_lt hii (by omega)
  have hin : vp_in (nI i) 8 := vp_in_nI (by omega) (by decide)
  have hw : (CL (nI i).toNatClampNeg &&& 16 = 0) ↔ IB (nI i).toNatClampNeg = 0 := by rw [nI_clamp (by omega)]; exact fr_if (hC i hii)
  by_cases hb : IB (nI i).toNatClampNeg = 0
  · exact br_f a0 (br_f a1 (br_f b0 (br_t b1 ⟨hin, br_t hb (br_f a0 (br_f a1 (br_f b0 (br_t b1 ⟨hin, br_t (hw.mpr hb) ⟨rfl, J⟩⟩))))⟩)))
  have hy : ¬ CL (nI i).toNatClampNeg &&& 16 = 0 := fun z => hb (hw.mp z)
  by_cases hic : i < c
  · have c1 : nI i < nI c := nI_lt hic (by omega)
    have hci : vp_in (nI c) 8 := vp_in_nI (by omega) (by decide)
    have ec : (nI c).toNatClampNeg = c := nI_clamp (by omega)
    obtain ⟨n, hn, f1, f2, f3⟩ := fr_ic (hC c hcc)
    have g1 : IC (nI c).toNatClampNeg = nI n := by rw [ec]; exact f1
    have g2 : fr_qC (CL (nI c).toNatClampNeg) = nI n := by rw [ec]; exact f2
    have TX : ∀ post : Int32 → SX → Prop, (∃ m : Nat, wX_addIface_57 post (nI c) (nI i) (nI n) (nI nc) (nI nf) SU IF IC IB OW NM DS FL ST m 0) → wpX_addIface post (nI nc, nI nf, SU, IF, IC, IB, OW, NM, DS, FL, ST) (nI c) (nI i) := fun post h => br_f a0 (br_f a1 (br_f b0 (br_t b1 ⟨hin, br_f hb (br_t c1 ⟨hci, nm_r g1 h⟩)⟩)))
    have TY : ∀ post : Int32 → SY → Prop, (∃ m : Nat, wY_addIface_69 post (nI c) (nI i) (nI n) (nI nc) (nI nf) CL NM DS FL OW ST m 0) → wpY_addIface post (nI nc, nI nf, CL, NM, DS, FL, OW, ST) (nI c) (nI i) := fun post h => br_f a0 (br_f a1 (br_f b0 (br_t b1 ⟨hin, br_f hy (br_t c1 ⟨hci, nm_r g2 h⟩)⟩)))
    have le : nI n ≤ nI n := Int32.le_refl _
    rcases fr_dup (i := i) (SU := SU) (IC := IC) (IB := IB) (OW := OW) (NM := NM) (DS := DS) (FL := FL) (ST := ST) (fc := nI nc) (ff := nI nf) hn (show c < 8 by omega) f3 n 0 (Nat.zero_add n) with ⟨a, b⟩ | ⟨a, b⟩
    · exact TX _ ⟨n + 1, a _ (TY _ ⟨n + 1, b _ ⟨rfl, J⟩⟩)⟩
    · refine TX _ ⟨n + 1, a _ ?_⟩
      by_cases h3 : n < 3
      · have c3 : nI n < 3 := nI_lt (b := 3) h3 (by decide)
        have h24 : vp_in (nI c * 3 + nI n) 24 := by
          rw [fr_x3]
          exact vp_in_nI (by omega) (by decide)
        have e24 : (nI c * 3 + nI n).toNatClampNeg = c * 3 + n := by rw [fr_x3, nI_clamp (by omega)]
        obtain ⟨w, w1, w2, w3⟩ := fr_new (hC c hcc) (by omega) h3 f1 hic
        refine br_t le (br_t c3 ⟨h24, nm_r (e' := upd IF (c * 3 + n) (nI i)) (by rw [e24]) ⟨hci, nm_r (e' := upd IC c (nI (n + 1))) (by rw [ec, nI_1]) (TY _ ⟨n + 1, b _ ?_⟩)⟩⟩)
        have w1' : CL (nI c).toNatClampNeg + (256 + ((nI i).toInt64 <<< ((16 + (8 * nI n)).toInt64 &&& 63))) = w := by rw [ec]; exact w1
        refine br_t le (br_t c3 ⟨hci, hci, nm_r (e' := vp_updL CL c w) (by rw [w1', ec]) ⟨?_, fr_mk hc hf ?_ hF⟩⟩)
        · rw [w1']
          exact w2
        · intro d hd
          by_cases z : d = c
          · subst z
            exact w3
          · exact fr_Ck (hC d hd) rfl (fun t ht => pk_un (by omega)) (pk_un z) rfl (pk_uLn z)
      · have c3 : ¬ nI n < 3 := nI_nlt (b := 3) (by omega) (by omega)
        exact br_t le (br_f c3 (TY _ ⟨n + 1, b _ (br_t le (br_f c3 ⟨rfl, J⟩))⟩))
  · have c1 : ¬ nI i < nI c := nI_nlt (by omega) (by omega)
    exact br_f a0 (br_f a1 (br_f b0 (br_t b1 ⟨hin, br_f hb (br_f c1 (br_f a0 (br_f a1 (br_f b0 (br_t b1 ⟨hin, br_f hy (br_f c1 ⟨rfl, J⟩)⟩)))))⟩)))
end
section
/-! the scan over the fields (X in place, Y by own), and addField -/
theorem fr_miss {c0 c1 c2 c3 A H V : Prop} {x y : Int32} {R : Int32 → Prop} (h0 : ¬ c0) (hi : V) (e : x + 1 = y) (hn : ¬ (c1 ∧ c2 ∧ c3)) (r : R y) : (c0 → A) ∧ (¬ c0 → (V ∧ ((c1 → (V ∧ ((c2 → (V ∧ ((c3 → H) ∧ (¬ c3 → (∀ a : Int32, a = x + 1 → R a))))) ∧ (¬ c2 → (∀ a : Int32, a = x + 1 → R a))))) ∧ (¬ c1 → (∀ a : Int32, a = x + 1 → R a))))) := by
  have q : ∀ a : Int32, a = x + 1 → R a := nm_r e r
  refine br_f h0 ⟨hi, br_c (fun z1 => ⟨hi, br_c (fun z2 => ⟨hi, br_c (fun z3 => absurd ⟨z1, z2, z3⟩ hn) (fun _ => q)⟩) (fun _ => q)⟩) (fun _ => q)⟩
theorem fr_hit {c0 c1 c2 c3 A H V : Prop} {x : Int32} {R : Int32 → Prop} (h0 : ¬ c0) (hi : V) (hn : c1 ∧ c2 ∧ c3) (h : H) : (c0 → A) ∧ (¬ c0 → (V ∧ ((c1 → (V ∧ ((c2 → (V ∧ ((c3 → H) ∧ (¬ c3 → (∀ a : Int32, a = x + 1 → R a))))) ∧ (¬ c2 → (∀ a : Int32, a = x + 1 → R a))))) ∧ (¬ c1 → (∀ a : Int32, a = x + 1 → R a))))) :=
  br_f h0 ⟨hi, br_t hn.1 ⟨hi, br_t hn.2.1 ⟨hi, br_t hn.2.2 h⟩⟩⟩
theorem fr_scan {nf : Nat} (hf : nf ≤ 6) (OW NM DS : Nat → Int32) (x y z : Int32) : ∀ d j : Nat, j + d = nf →
    (∃ k, k < nf ∧ (∀ (post : Int32 → SX → Prop) (J : Int32 → (Nat → Int32) → (Nat → Int32) → (Nat → Int32) → (Nat → Int32) → (Nat → Int32) → (Nat → Int32) → (Nat → Int32) → (Nat → Int32) → (Nat → Int32) → Prop) (x6 fc : Int32) (SU IF IC IB FL ST : Nat → Int32), post (nI k) (fc, nI nf, SU, IF, IC, IB, OW, NM, DS, FL, ST) → wX_resolve_63 post J y z x6 x fc (nI nf) SU IF IC IB OW NM DS FL ST (d + 1) (nI j)) ∧ (∀ (post : Int32 → SX → Prop) (f fc : Int32) (SU IF IC IB FL ST : Nat → Int32), post (-6) (fc, nI nf, SU, IF, IC, IB, OW, NM, DS, FL, ST) → wX_addField_54 post x y z f fc (nI nf) SU IF IC IB OW NM DS FL ST (d + 1) (nI j)) ∧ (∀ (post : Int32 → Prop) (fc : Int32) (CL : Nat → Int64) (FL ST : Nat → Int32), post (nI k) → wY_own_3 post x y z fc (nI nf) CL NM DS FL OW ST (d + 1) (nI j)))
    ∨ ((∀ (post : Int32 → SX → Prop) (J : Int32 → (Nat → Int32) → (Nat → Int32) → (Nat → Int32) → (Nat → Int32) → (Nat → Int32) → (Nat → Int32) → (Nat → Int32) → (Nat → Int32) → (Nat → Int32) → Prop) (x6 fc : Int32) (SU IF IC IB FL ST : Nat → Int32), wX_resolve_63 post J y z x6 x fc (nI nf) SU IF IC IB OW NM DS FL ST 1 (nI nf) → wX_resolve_63 post J y z x6 x fc (nI nf) SU IF IC IB OW NM DS FL ST (d + 1) (nI j)) ∧ (∀ (post : Int32 → SX → Prop) (f fc : Int32) (SU IF IC IB FL ST : Nat → Int32), wX_addField_54 post x y z f fc (nI nf) SU IF IC IB OW NM DS FL ST 1 (nI nf) → wX_addField_54 post x y z f fc (nI nf) SU IF IC IB OW NM DS FL ST (d + 1) (nI j)) ∧ (∀ (post : Int32 → Prop) (fc : Int32) (CL : Nat → Int64) (FL ST : Nat → Int32), post (-1) → wY_own_3 post x y z fc (nI nf) CL NM DS FL OW ST (d + 1) (nI j))) := by
  intro d
  induction d with
  | zero =>
    intro j hj
    have e : j = nf := by omega
    subst e
    exact Or.inr ⟨fun _ _ _ _ _ _ _ _ _ _ h => h, fun _ _ _ _ _ _ _ _ _ h => h, fun _ _ _ _ _ h => br_t (Int32.le_refl _) h⟩
  | succ d ih =>
    intro j hj
    have hlt : ¬ nI nf ≤ nI j := nI_ge (by omega) (by omega)
    have hi : vp_in (nI j) 6 := vp_in_nI (by omega) (by decide)
    by_cases m : OW (nI j).toNatClampNeg = x ∧ NM (nI j).toNatClampNeg = y ∧ DS (nI j).toNatClampNeg = z
    · exact Or.inl ⟨j, by omega, fun _ _ _ _ _ _ _ _ _ _ h => fr_hit hlt hi m h, fun _ _ _ _ _ _ _ _ _ h => fr_hit hlt hi m h, fun _ _ _ _ _ h => fr_hit hlt hi m h⟩
    · rcases ih (j + 1) (by omega) with ⟨k, hk, a, b, c⟩ | ⟨a, b, c⟩
      · exact Or.inl ⟨k, hk, fun _ _ _ _ _ _ _ _ _ _ h => fr_miss hlt hi (nI_1 j) m (a _ _ _ _ _ _ _ _ _ _ h), fun _ _ _ _ _ _ _ _ _ h => fr_miss hlt hi (nI_1 j) m (b _ _ _ _ _ _ _ _ _ h), fun _ _ _ _ _ h => fr_miss hlt hi (nI_1 j) m (c _ _ _ _ _ h)⟩
      · exact Or.inr ⟨fun _ _ _ _ _ _ _ _ _ _ h => fr_miss hlt hi (nI_1 j) m (a _ _ _ _ _ _ _ _ _ _ h), fun _ _ _ _ _ _ _ _ _ h => fr_miss hlt hi (nI_1 j) m (b _ _ _ _ _ _ _ _ _ h), fun _ _ _ _ _ h => fr_miss hlt hi (nI_1 j) m (c _ _ _ _ _ h)⟩
theorem fr_b8 : ∀ o, o < 8 → (nI o).toInt8.toInt32 = nI o := by decide +kernel
theorem fr_ch (x : Int32) : ∃ q, q < 65536 ∧ vp_nar .char (x.toUInt32 % 65536).toInt32 = nI q := ⟨x.toBitVec.toNat % 65536, by omega, by rw [pk_vc, pk_char]⟩
theorem fr_af {k nc nf o : Nat} {SU IF IC IB OW NM DS FL ST : Nat → Int32} {CL : Nat → Int64} {v2 v3 v4 : Int32} (hc : nc ≤ 8) (hf : nf ≤ 6) (hC : ∀ c, c < nc → fr_C c SU IF IC IB CL) (hF : ∀ j, j < nf → fr_F j OW DS FL) (ho : o < nc) (T : ∀ post : Int32 → SY → Prop, wY_addField_45 post (nI o) v2 v3 v4 (nI nc) (nI nf) CL NM DS FL OW ST → wpY_addField post (nI nc, nI nf, CL, NM, DS, FL, OW, ST) (nI o) v2 v3 v4) : ∃ m : Nat, wX_addField_54 (fun r u' => wpY_addField (fun r' v' => r' = r ∧ i_Rel k u' v') (nI nc, nI nf, CL, NM, DS, FL, OW, ST) (nI o) v2 v3 v4) (nI o) v2.toInt16.toInt32 (v3.toUInt32 % 65536).toInt32 (v4.toUInt32 % 65536).toInt32 (nI nc) (nI nf) SU IF IC IB OW NM DS FL ST m 0 := by
  have J : i_Rel k (nI nc, nI nf, SU, IF, IC, IB, OW, NM, DS, FL, ST) (nI nc, nI nf, CL, NM, DS, FL, OW, ST) := fr_mk hc hf hC hF
  have le : nI nf ≤ nI nf := Int32.le_refl _
  have m1 : (-1 : Int32) < 0 := by decide
  rcases fr_scan hf OW NM DS (nI o) v2.toInt16.toInt32 (v3.toUInt32 % 65536).toInt32 nf 0 (Nat.zero_add nf) with ⟨j, hj, _, a, b⟩ | ⟨_, a, b⟩
  · refine ⟨nf + 1, a _ _ _ _ _ _ _ _ _ (T _ ?_)⟩
    unfold wY_addField_45 wpY_own
    exact ⟨nf + 1, b _ _ _ _ _ (br_f (nI_pos (by omega)) ⟨rfl, J⟩)⟩
  · by_cases h6 : nf < 6
    · have c6 : nI nf < 6 := nI_lt (b := 6) h6 (by decide)
      have hi : vp_in (nI nf) 6 := vp_in_nI h6 (by decide)
      have e : (nI nf).toNatClampNeg = nf := nI_clamp (by omega)
      have eb : vp_nar .byte (nI o).toInt8.toInt32 = nI o := by rw [pk_vb]; exact fr_b8 o (by omega)
      refine ⟨nf + 1, a _ _ _ _ _ _ _ _ _ (br_t le (br_t c6 ⟨hi, nm_e ⟨hi, nm_e ⟨hi, nm_e ⟨hi, nm_e (nm_r (nI_1 nf) (T _ ?_))⟩⟩⟩⟩))⟩
      unfold wY_addField_45 wpY_own
      refine ⟨nf + 1, b _ _ _ _ _ (br_t m1 (br_t c6 ⟨hi, nm_e ⟨hi, nm_e ⟨hi, nm_e ⟨hi, nm_r (e' := upd OW (nI nf).toNatClampNeg (nI o)) (by rw [eb]) (nm_r (nI_1 nf) ⟨rfl, fr_mk hc (by omega) hC ?_⟩)⟩⟩⟩⟩))⟩
      rw [e]
      intro j hj
      by_cases z : j = nf
      · subst z
        obtain ⟨q1, h1, e1⟩ := fr_ch v3
        obtain ⟨q2, h2, e2⟩ := fr_ch v4
        exact ⟨⟨o, by omega, pk_us⟩, ⟨q1, h1, pk_us.trans e1⟩, ⟨q2, h2, pk_us.trans e2⟩⟩
      · have h := hF j (by omega)
        unfold fr_F
        rw [pk_un z, pk_un z, pk_un z]
        exact h
    · have c6 : ¬ nI nf < 6 := nI_nlt (b := 6) (by omega) (by omega)
      refine ⟨nf + 1, a _ _ _ _ _ _ _ _ _ (br_t le (br_f c6 (T _ ?_)))⟩
      unfold wY_addField_45 wpY_own
      exact ⟨nf + 1, b _ _ _ _ _ (br_t m1 (br_f c6 ⟨rfl, J⟩))⟩
theorem i_vc_addField {k : Nat} {u : SX} {v : SY} (I : i_Rel k u v) (hk : k + 5 ≤ 2560) (v1 : Int32) (v2 : Int32) (v3 : Int32) (v4 : Int32) : wpX_addField (fun r u' => wpY_addField (fun r' v' => r' = r ∧ i_Rel (k + 5) u' v') v v1 v2 v3 v4) u v1 v2 v3 v4 := by
  obtain ⟨nc, nf, SU, IF, IC, IB, OW, NM, DS, FL, ST, CL, rfl, rfl, hc, hf, hC, hF⟩ := I
  have J : i_Rel (k + 5) (nI nc, nI nf, SU, IF, IC, IB, OW, NM, DS, FL, ST) (nI nc, nI nf, CL, NM, DS, FL, OW, ST) := fr_mk hc hf hC hF
  rcases pk_ix v1 (n := nc) (by omega) with h | h | ⟨o, ho, rfl⟩
  · exact br_t h (br_t h ⟨rfl, J⟩)
  · have n0 := fr_ge (by omega) h
    have n1 : ¬ v1 < nI nc := Int32.not_lt.mpr h
    exact br_f n0 (br_f n1 (br_f n0 (br_f n1 ⟨rfl, J⟩)))
  have n0 : ¬ nI o < 0 := nI_pos (by omega)
  have n1 : nI o < nI nc := nI_lt ho (by omega)
  have hi : vp_in (nI o) 8 := vp_in_nI (by omega) (by decide)
  have hw : (CL (nI o).toNatClampNeg &&& 16 = 0) ↔ IB (nI o).toNatClampNeg = 0 := by rw [nI_clamp (by omega)]; exact fr_if (hC o ho)
  by_cases hb : IB (nI o).toNatClampNeg = 0
  · exact br_f n0 (br_t n1 (nm_e (nm_e ⟨hi, br_t hb (fr_af hc hf hC hF ho (fun post y => br_f n0 (br_t n1 ⟨hi, br_t (hw.mpr hb) y⟩)))⟩)))
  have hy : ¬ CL (nI o).toNatClampNeg &&& 16 = 0 := fun z => hb (hw.mp z)
  by_cases hg : (v4.toUInt32 % 65536).toInt32 &&& 16607 = 25
  · exact br_f n0 (br_t n1 (nm_e (nm_e ⟨hi, br_f hb (br_t hg (fr_af hc hf hC hF ho (fun post y => br_f n0 (br_t n1 ⟨hi, br_f hy (br_t hg y)⟩))))⟩)))
  · exact br_f n0 (br_t n1 (nm_e (nm_e ⟨hi, br_f hb (br_f hg (br_f n0 (br_t n1 ⟨hi, br_f hy (br_f hg ⟨rfl, J⟩)⟩)))⟩)))
end
section
/-! the lookup: the push of a type's superinterfaces, the measure, the walk over the stack -/
theorem fr_push {c : Nat} (hc : c < 8) {SU IF IC IB OW NM DS FL : Nat → Int32} {CL : Nat → Int64} {w : Int64} {y z fc ff : Int32} : ∀ (n p : Nat) (ST : Nat → Int32), n ≤ 3 → p + n ≤ 32 → (∀ k, k < n → ∃ i, i < c ∧ IF (c * 3 + k) = nI i ∧ fr_qI w (nI k) = nI i) → ∃ ST' : Nat → Int32, (∀ j, j < p → ST' j = ST j) ∧ (∀ j, p ≤ j → j < p + n → ∃ i, i < c ∧ ST' j = nI i) ∧ (∀ (post : Int32 → SX → Prop) (J : Int32 → (Nat → Int32) → (Nat → Int32) → (Nat → Int32) → (Nat → Int32) → (Nat → Int32) → (Nat → Int32) → (Nat → Int32) → (Nat → Int32) → (Nat → Int32) → Prop), J (nI (p + n)) SU IF IC IB OW NM DS FL ST' → wX_resolve_153 post J y z (nI c) fc ff (n + 1) (nI p) (nI n - 1) SU IF IC IB OW NM DS FL ST) ∧ (∀ (post : Int32 → SY → Prop) (J : Int32 → (Nat → Int64) → (Nat → Int32) → (Nat → Int32) → (Nat → Int32) → (Nat → Int32) → (Nat → Int32) → Prop), J (nI (p + n)) CL NM DS FL OW ST' → wY_lookup_101 post J y z w fc ff (n + 1) (nI p) (nI n - 1) CL NM DS FL OW ST) := by
  intro n
  induction n with
  | zero =>
    intro p ST _ _ _
    have m1 : nI 0 - 1 < 0 := by decide
    exact ⟨ST, fun _ _ => rfl, fun j h1 h2 => by omega, fun post J h => br_t m1 h, fun post J h => br_t m1 h⟩
  | succ n ih =>
    intro p ST hn hp hI
    obtain ⟨i, hi, f1, f2⟩ := hI n (by omega)
    obtain ⟨ST', s1, s2, sX, sY⟩ := ih (p + 1) (upd ST p (nI i)) (by omega) (by omega) (fun k hk => hI k (by omega))
    have ep : p + 1 + n = p + (n + 1) := by omega
    rw [ep] at s2 sX sY
    have pos : ¬ nI n < 0 := nI_pos (by omega)
    have e : (nI p).toNatClampNeg = p := nI_clamp (by omega)
    have h32 : vp_in (nI p) 32 := vp_in_nI (by omega) (by decide)
    have h24 : vp_in (nI c * 3 + nI n) 24 := by
      rw [fr_x3]
      exact vp_in_nI (by omega) (by decide)
    have e24 : (nI c * 3 + nI n).toNatClampNeg = c * 3 + n := by rw [fr_x3, nI_clamp (by omega)]
    have em : nI n + (-1) = nI n - 1 := (Int32.sub_eq_add_neg (nI n) 1).symm
    have uX : upd ST (nI p).toNatClampNeg (IF (nI c * 3 + nI n).toNatClampNeg) = upd ST p (nI i) := by rw [e, e24, f1]
    have uY : upd ST (nI p).toNatClampNeg (fr_qI w (nI n)) = upd ST p (nI i) := by rw [e, f2]
    refine ⟨ST', ?_, ?_, ?_, ?_⟩
    · intro j hj
      exact (s1 j (by omega)).trans (pk_un (by omega))
    · intro j h1 h2
      by_cases t : j = p
      · subst t
        exact ⟨i, hi, (s1 j (by omega)).trans pk_us⟩
      · exact s2 j (by omega) h2
    · intro post J h
      rw [nI_pred]
      exact br_f pos ⟨h24, h32, nm_r uX (nm_r (nI_1 p) (nm_r em (sX post J h)))⟩
    · intro post J h
      rw [nI_pred]
      exact br_f pos ⟨h32, nm_r uY (nm_r (nI_1 p) (nm_r em (sY post J h)))⟩
/-- the measure of a stack: each type weighs more than all that it pushes -/
def fr_mu (ST : Nat → Int32) : Nat → Nat
  | 0 => 0
  | n + 1 => fr_mu ST n + 5 ^ (ST n).toNatClampNeg
theorem fr_mu_cg {ST ST' : Nat → Int32} : ∀ p, (∀ j, j < p → ST' j = ST j) → fr_mu ST' p = fr_mu ST p := by
  intro p
  induction p with
  | zero => intro _; rfl
  | succ p ih =>
    intro h
    show fr_mu ST' p + 5 ^ (ST' p).toNatClampNeg = fr_mu ST p + 5 ^ (ST p).toNatClampNeg
    rw [ih (fun j hj => h j (by omega)), h p (by omega)]
theorem fr_mu_le {ST ST' : Nat → Int32} {p x : Nat} (hx : x < 8) (h1 : ∀ j, j < p → ST' j = ST j) : ∀ q, (∀ j, p ≤ j → j < p + q → ∃ i, i < x + 1 ∧ ST' j = nI i) → fr_mu ST' (p + q) ≤ fr_mu ST p + q * 5 ^ x := by
  intro q
  induction q with
  | zero =>
    intro _
    rw [Nat.zero_mul, Nat.add_zero, Nat.add_zero]
    exact Nat.le_of_eq (fr_mu_cg p h1)
  | succ q ih =>
    intro h2
    have a := ih (fun j z1 z2 => h2 j z1 (by omega))
    obtain ⟨i, hi, e⟩ := h2 (p + q) (by omega) (by omega)
    have b : 5 ^ (ST' (p + q)).toNatClampNeg ≤ 5 ^ x := by
      rw [e, nI_clamp (by omega)]
      exact Nat.pow_le_pow_right (by decide) (by omega)
    show fr_mu ST' (p + q) + 5 ^ (ST' (p + q)).toNatClampNeg ≤ fr_mu ST p + (q + 1) * 5 ^ x
    rw [Nat.succ_mul]
    omega
/-- what stands on the stack: known classes, each with room for all that can follow it -/
def fr_S (nc p : Nat) (ST : Nat → Int32) : Prop := ∀ j, j < p → ∃ s, s < nc ∧ ST j = nI s ∧ j + 1 + 3 * s ≤ 22
theorem fr_next {nc p q s : Nat} {ST ST' : Nat → Int32} (hnc : nc ≤ 8) (hs : s < nc) (hb : p + 1 + 3 * s ≤ 22) (hS : fr_S nc p ST) (hq : q ≤ 4) (h1 : ∀ j, j < p → ST' j = ST j) (h2 : ∀ j, p ≤ j → j < p + q → ∃ i, i < s ∧ ST' j = nI i) : fr_S nc (p + q) ST' ∧ fr_mu ST' (p + q) < fr_mu ST p + 5 ^ s := by
  constructor
  · intro j hj
    by_cases z : j < p
    · rw [h1 j z]
      exact hS j z
    · obtain ⟨i, hi, e⟩ := h2 j (by omega) hj
      exact ⟨i, by omega, e, by omega⟩
  · cases s with
    | zero =>
      have q0 : q = 0 := by
        apply Classical.byContradiction
        intro z
        obtain ⟨i, hi, _⟩ := h2 p (by omega) (by omega)
        omega
      subst q0
      rw [Nat.add_zero, fr_mu_cg p h1]
      exact Nat.lt_succ_self _
    | succ x =>
      have a := fr_mu_le (show x < 8 by omega) h1 q h2
      have b : q * 5 ^ x ≤ 4 * 5 ^ x := Nat.mul_le_mul_right _ hq
      have c : 0 < 5 ^ x := Nat.pow_pos (by decide)
      have d : 5 ^ (x + 1) = 5 ^ x * 5 := Nat.pow_succ 5 x
      rw [d]
      omega
end
section
theorem fr_walk {nc nf : Nat} {SU IF IC IB OW NM DS FL : Nat → Int32} {CL : Nat → Int64} (hc : nc ≤ 8) (hf : nf ≤ 6) (hC : ∀ c, c < nc → fr_C c SU IF IC IB CL) (y z : Int32) : ∀ (m p : Nat) (ST : Nat → Int32), fr_mu ST p < m → fr_S nc p ST → ∃ (r : Int32) (ST' : Nat → Int32), (∀ post : Int32 → SX → Prop, post r (nI nc, nI nf, SU, IF, IC, IB, OW, NM, DS, FL, ST') → wX_resolve_40 post y z (nI nc) (nI nf) m (nI p) SU IF IC IB OW NM DS FL ST) ∧ (∀ post : Int32 → SY → Prop, post r (nI nc, nI nf, CL, NM, DS, FL, OW, ST') → wY_lookup_14 post y z (nI nc) (nI nf) m (nI p) CL NM DS FL OW ST) := by
  intro m
  induction m with
  | zero => intro p ST h; exact absurd h (Nat.not_lt_zero _)
  | succ m ih =>
    intro p ST hm hS
    cases p with
    | zero =>
      have l0 : nI 0 ≤ 0 := by decide
      exact ⟨-8, ST, fun post h => br_t l0 h, fun post h => br_t l0 h⟩
    | succ p =>
      obtain ⟨s, hs, es, hb⟩ := hS p (Nat.lt_succ_self p)
      have hS' : fr_S nc p ST := fun j hj => hS j (by omega)
      have hm' : fr_mu ST p + 5 ^ s < m + 1 := by
        have e : fr_mu ST (p + 1) = fr_mu ST p + 5 ^ (ST p).toNatClampNeg := rfl
        rw [e, es, nI_clamp (by omega)] at hm
        exact hm
      have pos : ¬ nI (p + 1) ≤ 0 := nI_nle (by omega) (by omega)
      have h32 : vp_in (nI p) 32 := vp_in_nI (by omega) (by decide)
      have ep : (nI p).toNatClampNeg = p := nI_clamp (by omega)
      have es' : ST (nI p).toNatClampNeg = nI s := by rw [ep]; exact es
      have le : nI nf ≤ nI nf := Int32.le_refl _
      have m1 : (-1 : Int32) < 0 := by decide
      -- the tops of both loops' bodies
      have TX : ∀ post : Int32 → SX → Prop, wX_resolve_63 post (wX_resolve_40 post y z (nI nc) (nI nf) m) y z (nI p) (nI s) (nI nc) (nI nf) SU IF IC IB OW NM DS FL ST (nf + 1) (nI 0) → wX_resolve_40 post y z (nI nc) (nI nf) (m + 1) (nI (p + 1)) SU IF IC IB OW NM DS FL ST := fun post h => br_f pos (nm_r (nI_pred p) ⟨h32, nm_r es' ⟨nf + 1, h⟩⟩)
      rcases fr_scan hf OW NM DS (nI s) y z nf 0 (Nat.zero_add nf) with ⟨k, hk, a, _, b⟩ | ⟨a, _, b⟩
      · refine ⟨nI k, ST, fun post h => TX post (a _ _ _ _ _ _ _ _ _ _ h), fun post h => br_f pos (nm_r (pk_m1 p) ⟨h32, nm_r es' ?_⟩)⟩
        unfold wpY_own
        exact ⟨nf + 1, b _ _ _ _ _ (br_f (nI_pos (by omega)) h)⟩
      · have h8 : vp_in (nI s) 8 := vp_in_nI (by omega) (by decide)
        have esn : (nI s).toNatClampNeg = s := nI_clamp (by omega)
        obtain ⟨n, hn, f1, f2, f3⟩ := fr_ic (hC s hs)
        have g1 : IC (nI s).toNatClampNeg - 1 = nI n - 1 := by rw [esn, f1]
        have eC : CL (nI s).toNatClampNeg = CL s := by rw [esn]
        have hh := fr_hs (hC s hs)
        by_cases s0 : s = 0
        · have c0 : nI s = 0 := by rw [s0]; rfl
          obtain ⟨ST2, t1, t2, tX, tY⟩ := fr_push (SU := SU) (IF := IF) (IC := IC) (IB := IB) (OW := OW) (NM := NM) (DS := DS) (FL := FL) (CL := CL) (w := CL s) (y := y) (z := z) (fc := nI nc) (ff := nI nf) (show s < 8 by omega) n p ST hn (by omega) f3
          have N := fr_next hc hs hb hS' (show n ≤ 4 by omega) t1 t2
          obtain ⟨r, ST3, X, Y⟩ := ih (p + n) ST2 (by omega) N.1
          refine ⟨r, ST3, fun post h => TX post (a _ _ _ _ _ _ _ _ _ _ ?_), fun post h => br_f pos (nm_r (pk_m1 p) ⟨h32, nm_r es' ?_⟩)⟩
          · exact br_t le (br_t c0 ⟨h8, nm_r g1 ⟨n + 1, tX post _ (X post h)⟩⟩)
          · unfold wpY_own
            refine ⟨nf + 1, b _ _ _ _ _ (br_t m1 ⟨h8, nm_r eC (br_t (hh.mpr s0) ?_)⟩)⟩
            unfold wY_lookup_85
            exact nm_r f2 (nm_e ⟨n + 1, tY post _ (Y post h)⟩)
        · have c0 : ¬ nI s = 0 := nI_ne0 (by omega) (by omega)
          have hh' : ¬ CL s &&& 8 = 0 := fun q => s0 (hh.mp q)
          obtain ⟨t, ht, u1, u2⟩ := fr_su (hC s hs) (by omega)
          have uX : upd ST (nI p).toNatClampNeg (SU (nI s).toNatClampNeg) = upd ST p (nI t) := by rw [ep, esn, u1]
          have uY : upd ST (nI p).toNatClampNeg ((CL s).toInt32 &&& 7) = upd ST p (nI t) := by rw [ep, u2]
          obtain ⟨ST2, t1, t2, tX, tY⟩ := fr_push (SU := SU) (IF := IF) (IC := IC) (IB := IB) (OW := OW) (NM := NM) (DS := DS) (FL := FL) (CL := CL) (w := CL s) (y := y) (z := z) (fc := nI nc) (ff := nI nf) (show s < 8 by omega) n (p + 1) (upd ST p (nI t)) hn (by omega) f3
          have eq : p + 1 + n = p + (1 + n) := by omega
          have t1' : ∀ j, j < p → ST2 j = ST j := fun j hj => (t1 j (by omega)).trans (pk_un (by omega))
          have t2' : ∀ j, p ≤ j → j < p + (1 + n) → ∃ i, i < s ∧ ST2 j = nI i := by
            intro j h1 h2
            by_cases q : j = p
            · subst q
              exact ⟨t, ht, (t1 j (by omega)).trans pk_us⟩
            · exact t2 j (by omega) (by omega)
          have N := fr_next hc hs hb hS' (show 1 + n ≤ 4 by omega) t1' t2'
          rw [eq] at tX tY
          obtain ⟨r, ST3, X, Y⟩ := ih (p + (1 + n)) ST2 (by omega) N.1
          refine ⟨r, ST3, fun post h => TX post (a _ _ _ _ _ _ _ _ _ _ ?_), fun post h => br_f pos (nm_r (pk_m1 p) ⟨h32, nm_r es' ?_⟩)⟩
          · exact br_t le (br_f c0 ⟨h8, h32, nm_r uX (nm_r (nI_1 p) ⟨h8, nm_r g1 ⟨n + 1, tX post _ (X post h)⟩⟩)⟩)
          · unfold wpY_own
            refine ⟨nf + 1, b _ _ _ _ _ (br_t m1 ⟨h8, nm_r eC (br_f hh' ⟨h32, nm_r uY (nm_r (nI_1 p) ?_)⟩)⟩)⟩
            unfold wY_lookup_85
            exact nm_r f2 (nm_e ⟨n + 1, tY post _ (Y post h)⟩)
theorem i_vc_resolve {k : Nat} {u : SX} {v : SY} (I : i_Rel k u v) (hk : k + 5 ≤ 2560) (v1 : Int32) (v2 : Int32) (v3 : Int32) : wpX_resolve (fun r u' => wpY_resolve (fun r' v' => r' = r ∧ i_Rel (k + 5) u' v') v v1 v2 v3) u v1 v2 v3 := by
  obtain ⟨nc, nf, SU, IF, IC, IB, OW, NM, DS, FL, ST, CL, rfl, rfl, hc, hf, hC, hF⟩ := I
  have J : ∀ S : Nat → Int32, i_Rel (k + 5) (nI nc, nI nf, SU, IF, IC, IB, OW, NM, DS, FL, S) (nI nc, nI nf, CL, NM, DS, FL, OW, S) := fun S => fr_mk hc hf hC hF
  rcases pk_ix v1 (n := nc) (by omega) with h | h | ⟨c, hcc, rfl⟩
  · exact br_t h (br_t h ⟨rfl, J ST⟩)
  · have n0 := fr_ge (by omega) h
    have n1 : ¬ v1 < nI nc := Int32.not_lt.mpr h
    exact br_f n0 (br_f n1 (br_f n0 (br_f n1 ⟨rfl, J ST⟩)))
  have n0 : ¬ nI c < 0 := nI_pos (by omega)
  have n1 : nI c < nI nc := nI_lt hcc (by omega)
  have e1 : (0 : Int32) + 1 = nI 1 := by decide
  obtain ⟨r, ST', X, Y⟩ := fr_walk (OW := OW) (NM := NM) (DS := DS) (FL := FL) hc hf hC v2.toInt16.toInt32 (v3.toUInt32 % 65536).toInt32 (fr_mu (upd ST 0 (nI c)) 1 + 1) 1 (upd ST 0 (nI c)) (Nat.lt_succ_self _) (fun j hj => by
    have j0 : j = 0 := by omega
    subst j0
    exact ⟨c, hcc, pk_us, by omega⟩)
  refine br_f n0 (br_t n1 (nm_e (nm_e (nm_r e1 ⟨_, X _ ?_⟩))))
  refine br_f n0 (br_t n1 ?_)
  unfold wpY_lookup
  exact nm_e (nm_r e1 ⟨_, Y _ ⟨rfl, J ST'⟩⟩)
end

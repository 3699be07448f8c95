section
/-! rows pasted from kit/rows/PURE-ROWS (a starting text) -/
theorem pk_us {f : Nat → Int32} {k : Nat} {x : Int32} : upd f k x k = x := if_pos rfl
theorem pk_un {f : Nat → Int32} {k j : Nat} {x : Int32} (h : j ≠ k) : upd f k x j = f j := if_neg h
theorem pk_uLs {f : Nat → Int64} {k : Nat} {x : Int64} : vp_updL f k x k = x := if_pos rfl
theorem pk_uLn {f : Nat → Int64} {k j : Nat} {x : Int64} (h : j ≠ k) : vp_updL f k x j = f j := if_neg h
theorem pk_sub {a b : Nat} (h : b ≤ a) : nI a - nI b = nI (a - b) := by
  obtain ⟨c, rfl⟩ : ∃ c, a = c + b := ⟨a - b, by omega⟩
  rw [← nI_add, Int32.add_sub_cancel, Nat.add_sub_cancel]
theorem pk_mul (a b : Nat) : nI a * nI b = nI (a * b) := (Int32.ofNat_mul a b).symm
theorem pk_div {a d : Nat} (ha : a < 2 ^ 31) (h0 : 0 < d) (hd : d < 2 ^ 31) : nI a / nI d = nI (a / d) := by
  apply Int32.toInt_inj.mp
  rw [lg_idiv_nonneg (by rw [nI_toInt ha]; omega) (by rw [nI_toInt hd]; omega), nI_toInt ha, nI_toInt hd, nI_toInt (Nat.lt_of_le_of_lt (Nat.div_le_self a d) ha)]
  first | rfl | exact (Int.natCast_ediv _ _).symm
theorem pk_rem {a d : Nat} (ha : a < 2 ^ 31) (h0 : 0 < d) (hd : d < 2 ^ 31) : nI a - nI a / nI d * nI d = nI (a % d) := by
  rw [pk_div ha h0 hd, pk_mul, pk_sub (Nat.div_mul_le_self a d)]
  exact congrArg nI (by have := Nat.div_add_mod' a d; omega)
theorem pk_tn {n : Nat} (h : n < 2 ^ 32) : (nI n).toBitVec.toNat = n := Nat.mod_eq_of_lt h
theorem pk_and (x : Int32) {m : Int32} (k : Nat) (hm : m.toBitVec.toNat = 2 ^ k - 1) : x &&& m = nI (x.toBitVec.toNat % 2 ^ k) := by
  apply Int32.toBitVec_inj.mp
  apply BitVec.eq_of_toNat_eq
  rw [Int32.toBitVec_and, BitVec.toNat_and, hm, Nat.and_two_pow_sub_one_eq_mod]
  show _ = (BitVec.ofNat 32 _).toNat
  rw [BitVec.toNat_ofNat]
  exact (Nat.mod_eq_of_lt (Nat.lt_of_le_of_lt (Nat.mod_le _ _) x.toBitVec.isLt)).symm
theorem pk_andN {n : Nat} (h : n < 2 ^ 32) {m : Int32} (k : Nat) (hm : m.toBitVec.toNat = 2 ^ k - 1) : nI n &&& m = nI (n % 2 ^ k) := by
  rw [pk_and _ k hm, pk_tn h]
theorem pk_andE (x : Int32) {m : Int32} (k : Nat) (hm : m.toBitVec.toNat = 2 ^ k - 1) : ∃ j : Nat, j < 2 ^ k ∧ x &&& m = nI j := ⟨_, Nat.mod_lt _ (Nat.two_pow_pos k), pk_and x k hm⟩
theorem pk_ushr (x s : Int32) (k : Nat) (hs : ((s.toUInt32 &&& Int32.toUInt32 31).toBitVec % 32).toNat = k) : (x.toUInt32 >>> (s.toUInt32 &&& Int32.toUInt32 31)).toInt32.toBitVec.toNat = x.toBitVec.toNat / 2 ^ k := by
  have e : (x.toUInt32 >>> (s.toUInt32 &&& Int32.toUInt32 31)).toInt32.toBitVec = x.toBitVec >>> k := by
    rw [← hs]
    exact UInt32.toBitVec_shiftRight _ _
  rw [e, BitVec.toNat_ushiftRight, Nat.shiftRight_eq_div_pow]
theorem pk_ushrN {n : Nat} (hn : n < 2 ^ 32) (s : Int32) (k : Nat) (hs : ((s.toUInt32 &&& Int32.toUInt32 31).toBitVec % 32).toNat = k) : ((nI n).toUInt32 >>> (s.toUInt32 &&& Int32.toUInt32 31)).toInt32 = nI (n / 2 ^ k) := by
  apply Int32.toBitVec_inj.mp
  apply BitVec.eq_of_toNat_eq
  rw [pk_ushr _ s k hs, pk_tn hn, pk_tn (Nat.lt_of_le_of_lt (Nat.div_le_self _ _) hn)]
theorem pk_charN {q : Nat} (hq : q < 65536) : narrow .char (.int (nI q)) = .int (nI q) ∧ fits .char (.int (nI q)) = true := by
  constructor
  · have e : (nI q).toUInt32.toUInt16.toUInt32.toInt32 = nI q := by
      apply Int32.toBitVec_inj.mp
      apply BitVec.eq_of_toNat_eq
      show (nI q).toUInt32.toUInt16.toUInt32.toNat = q % 2 ^ 32
      rw [UInt16.toNat_toUInt32, UInt32.toNat_toUInt16, show (nI q).toUInt32.toNat = q % 2 ^ 32 from rfl]
      omega
    exact congrArg Value.int e
  · have a : (0 : Int32) ≤ nI q := nI_pos' (by omega)
    have b : nI q ≤ 65535 := nI_le (b := 65535) (by omega) (by decide)
    show (decide ((0 : Int32) ≤ nI q) && decide (nI q ≤ 65535)) = true
    rw [decide_eq_true a, decide_eq_true b]
    rfl
theorem pk_char (x : Int32) : (x.toUInt32 % 65536).toInt32 = nI (x.toBitVec.toNat % 65536) := by
  apply Int32.toBitVec_inj.mp
  apply BitVec.eq_of_toNat_eq
  rw [pk_tn (by omega)]
  show (x.toUInt32 % 65536).toNat = _
  rw [UInt32.toNat_mod]
  rfl
theorem pk_nc (x : Int32) : narrow .char (.int (x.toUInt32 % 65536).toInt32) = .int (x.toUInt32 % 65536).toInt32 := by
  rw [pk_char]
  exact (pk_charN (Nat.mod_lt _ (by decide))).1
theorem pk_vb (z : Int32) : vp_nar .byte z.toInt8.toInt32 = z.toInt8.toInt32 := by rw [vp_nar_byte]; simp
theorem pk_vs (z : Int32) : vp_nar .short z.toInt16.toInt32 = z.toInt16.toInt32 := by rw [vp_nar_short]; simp
theorem pk_vc (z : Int32) : vp_nar .char (z.toUInt32 % 65536).toInt32 = (z.toUInt32 % 65536).toInt32 := Value.int.inj (pk_nc z)
end
section
/-! the plain laws of bits: what a store of w keeps, and what a widening read gives -/
theorem ag_b1 (w : Int64) : w &&& 1 = 0 ∨ w &&& 1 = 1 := by
  have e : (w &&& 1).toBitVec = (BitVec.ofBool (w.toBitVec.getLsbD 0)).setWidth 64 := by
    rw [Int64.toBitVec_and]
    exact BitVec.and_one_eq_setWidth_ofBool_getLsbD
  cases h : w.toBitVec.getLsbD 0 with
  | false => left; apply Int64.toBitVec_inj.mp; rw [e, h]; decide
  | true => right; apply Int64.toBitVec_inj.mp; rw [e, h]; decide
theorem ag_L0 (w : Int64) : ((w &&& 1).toInt32.toInt8.toInt32).toInt64 = w &&& 1 := by
  rcases ag_b1 w with h | h <;> rw [h] <;> decide
theorem ag_L1 (w : Int64) : (w &&& 255).toInt32.toInt8 = w.toInt32.toInt8 := by
  rw [Int64.toInt32_and, Int32.toInt8_and, show (255 : Int64).toInt32.toInt8 = -1 from by decide, Int8.and_neg_one]
theorem ag_L3 (w : Int64) : (w &&& 65535).toInt32.toInt16 = w.toInt32.toInt16 := by
  rw [Int64.toInt32_and, Int32.toInt16_and, show (65535 : Int64).toInt32.toInt16 = -1 from by decide, Int16.and_neg_one]
theorem ag_L4 (w : Int64) : (w &&& 4294967295).toInt32 = w.toInt32 := by
  rw [Int64.toInt32_and, show (4294967295 : Int64).toInt32 = -1 from by decide, Int32.and_neg_one]
theorem ag_M1 (w : Int64) : w.toInt32.toInt8.toInt32.toInt64 &&& 255 = w &&& 255 := by
  apply Int64.toBitVec_inj.mp
  rw [Int64.toBitVec_and, Int64.toBitVec_and, Int32.toBitVec_toInt64, Int8.toBitVec_toInt32, Int32.toBitVec_toInt8, Int64.toBitVec_toInt32]
  apply BitVec.eq_of_getLsbD_eq
  intro i hi
  rw [BitVec.getLsbD_and, BitVec.getLsbD_and]
  have hm : ∀ i < 64, 8 ≤ i → (255 : Int64).toBitVec.getLsbD i = false := by decide
  rcases Nat.lt_or_ge i 8 with z | z
  · have z2 : i < 32 := by omega
    rw [BitVec.getLsbD_signExtend, BitVec.getLsbD_signExtend, BitVec.getLsbD_signExtend, BitVec.getLsbD_signExtend, if_pos z2, if_pos z, if_pos z2, if_pos hi]
    simp only [z, z2, hi, decide_true, Bool.true_and]
  · rw [hm i hi z, Bool.and_false, Bool.and_false]
theorem ag_M3 (w : Int64) : w.toInt32.toInt16.toInt32.toInt64 &&& 65535 = w &&& 65535 := by
  apply Int64.toBitVec_inj.mp
  rw [Int64.toBitVec_and, Int64.toBitVec_and, Int32.toBitVec_toInt64, Int16.toBitVec_toInt32, Int32.toBitVec_toInt16, Int64.toBitVec_toInt32]
  apply BitVec.eq_of_getLsbD_eq
  intro i hi
  rw [BitVec.getLsbD_and, BitVec.getLsbD_and]
  have hm : ∀ i < 64, 16 ≤ i → (65535 : Int64).toBitVec.getLsbD i = false := by decide
  rcases Nat.lt_or_ge i 16 with z | z
  · have z2 : i < 32 := by omega
    rw [BitVec.getLsbD_signExtend, BitVec.getLsbD_signExtend, BitVec.getLsbD_signExtend, BitVec.getLsbD_signExtend, if_pos z2, if_pos z, if_pos z2, if_pos hi]
    simp only [z, z2, hi, decide_true, Bool.true_and]
  · rw [hm i hi z, Bool.and_false, Bool.and_false]
theorem ag_M4 (w : Int64) : w.toInt32.toInt64 &&& 4294967295 = w &&& 4294967295 := by
  apply Int64.toBitVec_inj.mp
  rw [Int64.toBitVec_and, Int64.toBitVec_and, Int32.toBitVec_toInt64, Int64.toBitVec_toInt32]
  apply BitVec.eq_of_getLsbD_eq
  intro i hi
  rw [BitVec.getLsbD_and, BitVec.getLsbD_and]
  have hm : ∀ i < 64, 32 ≤ i → (4294967295 : Int64).toBitVec.getLsbD i = false := by decide
  rcases Nat.lt_or_ge i 32 with z | z
  · rw [BitVec.getLsbD_signExtend, BitVec.getLsbD_signExtend, if_pos z, if_pos hi]
    simp only [z, hi, decide_true, Bool.true_and]
  · rw [hm i hi z, Bool.and_false, Bool.and_false]
theorem ag_L2 (w : Int64) : ((w.toInt32.toUInt32 % 65536).toInt32).toInt64 = w &&& 65535 := by
  have h : w.toInt32.toBitVec.toNat % 65536 < 2 ^ 31 := by omega
  rw [pk_char, nI_l h]
  apply Int64.toBitVec_inj.mp
  apply BitVec.eq_of_toNat_eq
  rw [Int64.toBitVec_and, BitVec.toNat_and, show (65535 : Int64).toBitVec.toNat = 2 ^ 16 - 1 from by decide, Nat.and_two_pow_sub_one_eq_mod]
  show (BitVec.ofNat 64 (w.toInt32.toBitVec.toNat % 65536)).toNat = _
  rw [BitVec.toNat_ofNat, Int64.toBitVec_toInt32, BitVec.signExtend_eq_setWidth_of_le _ (by decide), BitVec.toNat_setWidth]
  omega
end
section
/-! pure pictures: the mask of a kind, the value the reference reads, the raw bits of a value, X's own widening -/
def ag_m (e : Int32) : Int64 := if e = 0 then 1 else if e = 1 then 255 else if e = 2 then 65535 else if e = 3 then 65535 else if e = 4 then 4294967295 else if e = 6 then 4294967295 else -1
def ag_v (e b c s i : Int32) (l : Int64) : Int64 := if e = 0 then b.toInt64 else if e = 1 then b.toInt64 else if e = 2 then c.toInt64 else if e = 3 then s.toInt64 else if e = 4 then i.toInt64 else if e = 6 then i.toInt64 else l
def ag_r (v : Int64) (k : Int32) : Int64 := if k = 1 then v &&& 255 else if k = 2 then v &&& 65535 else if k = 3 then v &&& 65535 else if k = 4 then v &&& 4294967295 else if k = 6 then v &&& 4294967295 else v
def ag_x (e : Int32) (c : Int64) : Int64 := if e = 1 then c.toInt32.toInt8.toInt32.toInt64 else if e = 3 then c.toInt32.toInt16.toInt32.toInt64 else if e = 4 then c.toInt32.toInt64 else c
/-- the value that the reference keeps when the bits w are stored in an array of kind e -/
def ag_w (e : Int32) (w : Int64) : Int64 := if e = 0 then ((w &&& 1).toInt32.toInt8.toInt32).toInt64 else if e = 1 then w.toInt32.toInt8.toInt32.toInt64 else if e = 2 then ((w.toInt32.toUInt32 % 65536).toInt32).toInt64 else if e = 3 then w.toInt32.toInt16.toInt32.toInt64 else if e = 4 then w.toInt32.toInt64 else if e = 6 then w.toInt32.toInt64 else w
def ag_9 (e : Int32) : Prop := e = 0 ∨ e = 1 ∨ e = 2 ∨ e = 3 ∨ e = 4 ∨ e = 5 ∨ e = 6 ∨ e = 7 ∨ e = 8
/-- the pairs of element kind and asked kind that Java widens -/
def ag_ok (e k : Int32) : Prop := (e = 0 ∧ k = 0) ∨ (e = 1 ∧ k = 1) ∨ (e = 1 ∧ k = 3) ∨ (e = 1 ∧ k = 4) ∨ (e = 1 ∧ k = 5) ∨ (e = 2 ∧ k = 2) ∨ (e = 2 ∧ k = 4) ∨ (e = 2 ∧ k = 5) ∨ (e = 3 ∧ k = 3) ∨ (e = 3 ∧ k = 4) ∨ (e = 3 ∧ k = 5) ∨ (e = 4 ∧ k = 4) ∨ (e = 4 ∧ k = 5) ∨ (e = 5 ∧ k = 5)
/-- one cell: some stored bits w give X's cell and the reference's value -/
def ag_C (e : Int32) (x : Int64) (b c s i : Int32) (l : Int64) : Prop := ∃ w : Int64, x = w &&& ag_m e ∧ ag_v e b c s i l = ag_w e w
theorem ag_m_0 : ag_m 0 = 1 := by unfold ag_m; rw [if_pos rfl]
theorem ag_m_1 : ag_m 1 = 255 := by unfold ag_m; rw [if_neg (by decide), if_pos rfl]
theorem ag_m_2 : ag_m 2 = 65535 := by unfold ag_m; rw [if_neg (by decide), if_neg (by decide), if_pos rfl]
theorem ag_m_3 : ag_m 3 = 65535 := by unfold ag_m; rw [if_neg (by decide), if_neg (by decide), if_neg (by decide), if_pos rfl]
theorem ag_m_4 : ag_m 4 = 4294967295 := by unfold ag_m; rw [if_neg (by decide), if_neg (by decide), if_neg (by decide), if_neg (by decide), if_pos rfl]
theorem ag_m_5 : ag_m 5 = -1 := by unfold ag_m; rw [if_neg (by decide), if_neg (by decide), if_neg (by decide), if_neg (by decide), if_neg (by decide), if_neg (by decide)]
theorem ag_m_6 : ag_m 6 = 4294967295 := by unfold ag_m; rw [if_neg (by decide), if_neg (by decide), if_neg (by decide), if_neg (by decide), if_neg (by decide), if_pos rfl]
theorem ag_m_7 : ag_m 7 = -1 := by unfold ag_m; rw [if_neg (by decide), if_neg (by decide), if_neg (by decide), if_neg (by decide), if_neg (by decide), if_neg (by decide)]
theorem ag_m_8 : ag_m 8 = -1 := by unfold ag_m; rw [if_neg (by decide), if_neg (by decide), if_neg (by decide), if_neg (by decide), if_neg (by decide), if_neg (by decide)]
theorem ag_r_0 (v : Int64) : ag_r v 0 = v := by unfold ag_r; rw [if_neg (by decide), if_neg (by decide), if_neg (by decide), if_neg (by decide), if_neg (by decide)]
theorem ag_r_1 (v : Int64) : ag_r v 1 = v &&& 255 := by unfold ag_r; rw [if_pos rfl]
theorem ag_r_2 (v : Int64) : ag_r v 2 = v &&& 65535 := by unfold ag_r; rw [if_neg (by decide), if_pos rfl]
theorem ag_r_3 (v : Int64) : ag_r v 3 = v &&& 65535 := by unfold ag_r; rw [if_neg (by decide), if_neg (by decide), if_pos rfl]
theorem ag_r_4 (v : Int64) : ag_r v 4 = v &&& 4294967295 := by unfold ag_r; rw [if_neg (by decide), if_neg (by decide), if_neg (by decide), if_pos rfl]
theorem ag_r_5 (v : Int64) : ag_r v 5 = v := by unfold ag_r; rw [if_neg (by decide), if_neg (by decide), if_neg (by decide), if_neg (by decide), if_neg (by decide)]
theorem ag_r_6 (v : Int64) : ag_r v 6 = v &&& 4294967295 := by unfold ag_r; rw [if_neg (by decide), if_neg (by decide), if_neg (by decide), if_neg (by decide), if_pos rfl]
theorem ag_r_7 (v : Int64) : ag_r v 7 = v := by unfold ag_r; rw [if_neg (by decide), if_neg (by decide), if_neg (by decide), if_neg (by decide), if_neg (by decide)]
theorem ag_r_8 (v : Int64) : ag_r v 8 = v := by unfold ag_r; rw [if_neg (by decide), if_neg (by decide), if_neg (by decide), if_neg (by decide), if_neg (by decide)]
theorem ag_x_0 (c : Int64) : ag_x 0 c = c := by unfold ag_x; rw [if_neg (by decide), if_neg (by decide), if_neg (by decide)]
theorem ag_x_1 (c : Int64) : ag_x 1 c = c.toInt32.toInt8.toInt32.toInt64 := by unfold ag_x; rw [if_pos rfl]
theorem ag_x_2 (c : Int64) : ag_x 2 c = c := by unfold ag_x; rw [if_neg (by decide), if_neg (by decide), if_neg (by decide)]
theorem ag_x_3 (c : Int64) : ag_x 3 c = c.toInt32.toInt16.toInt32.toInt64 := by unfold ag_x; rw [if_neg (by decide), if_pos rfl]
theorem ag_x_4 (c : Int64) : ag_x 4 c = c.toInt32.toInt64 := by unfold ag_x; rw [if_neg (by decide), if_neg (by decide), if_pos rfl]
theorem ag_x_5 (c : Int64) : ag_x 5 c = c := by unfold ag_x; rw [if_neg (by decide), if_neg (by decide), if_neg (by decide)]
theorem ag_x_6 (c : Int64) : ag_x 6 c = c := by unfold ag_x; rw [if_neg (by decide), if_neg (by decide), if_neg (by decide)]
theorem ag_x_7 (c : Int64) : ag_x 7 c = c := by unfold ag_x; rw [if_neg (by decide), if_neg (by decide), if_neg (by decide)]
theorem ag_x_8 (c : Int64) : ag_x 8 c = c := by unfold ag_x; rw [if_neg (by decide), if_neg (by decide), if_neg (by decide)]
theorem ag_w_0 (w : Int64) : ag_w 0 w = ((w &&& 1).toInt32.toInt8.toInt32).toInt64 := by unfold ag_w; rw [if_pos rfl]
theorem ag_w_1 (w : Int64) : ag_w 1 w = w.toInt32.toInt8.toInt32.toInt64 := by unfold ag_w; rw [if_neg (by decide), if_pos rfl]
theorem ag_w_2 (w : Int64) : ag_w 2 w = ((w.toInt32.toUInt32 % 65536).toInt32).toInt64 := by unfold ag_w; rw [if_neg (by decide), if_neg (by decide), if_pos rfl]
theorem ag_w_3 (w : Int64) : ag_w 3 w = w.toInt32.toInt16.toInt32.toInt64 := by unfold ag_w; rw [if_neg (by decide), if_neg (by decide), if_neg (by decide), if_pos rfl]
theorem ag_w_4 (w : Int64) : ag_w 4 w = w.toInt32.toInt64 := by unfold ag_w; rw [if_neg (by decide), if_neg (by decide), if_neg (by decide), if_neg (by decide), if_pos rfl]
theorem ag_w_5 (w : Int64) : ag_w 5 w = w := by unfold ag_w; rw [if_neg (by decide), if_neg (by decide), if_neg (by decide), if_neg (by decide), if_neg (by decide), if_neg (by decide)]
theorem ag_w_6 (w : Int64) : ag_w 6 w = w.toInt32.toInt64 := by unfold ag_w; rw [if_neg (by decide), if_neg (by decide), if_neg (by decide), if_neg (by decide), if_neg (by decide), if_pos rfl]
theorem ag_w_7 (w : Int64) : ag_w 7 w = w := by unfold ag_w; rw [if_neg (by decide), if_neg (by decide), if_neg (by decide), if_neg (by decide), if_neg (by decide), if_neg (by decide)]
theorem ag_w_8 (w : Int64) : ag_w 8 w = w := by unfold ag_w; rw [if_neg (by decide), if_neg (by decide), if_neg (by decide), if_neg (by decide), if_neg (by decide), if_neg (by decide)]
theorem ag_P8 {e : Int32} (h : ag_9 e) (w : Int64) : w &&& ag_m e = ag_r (ag_w e w) e := by
  rcases h with rfl | rfl | rfl | rfl | rfl | rfl | rfl | rfl | rfl
  · rw [ag_m_0, ag_r_0, ag_w_0, ag_L0]
  · rw [ag_m_1, ag_r_1, ag_w_1, ag_M1]
  · rw [ag_m_2, ag_r_2, ag_w_2, ag_L2, Int64.and_assoc, Int64.and_self]
  · rw [ag_m_3, ag_r_3, ag_w_3, ag_M3]
  · rw [ag_m_4, ag_r_4, ag_w_4, ag_M4]
  · rw [ag_m_5, ag_r_5, ag_w_5, Int64.and_neg_one]
  · rw [ag_m_6, ag_r_6, ag_w_6, ag_M4]
  · rw [ag_m_7, ag_r_7, ag_w_7, Int64.and_neg_one]
  · rw [ag_m_8, ag_r_8, ag_w_8, Int64.and_neg_one]
theorem ag_PK {e k : Int32} (h : ag_ok e k) (w : Int64) : ag_x e (w &&& ag_m e) &&& ag_m k = ag_r (ag_w e w) k := by
  have h1 : ag_x 1 (w &&& ag_m 1) = ag_w 1 w := by rw [ag_m_1, ag_x_1, ag_w_1, ag_L1]
  have h2 : ag_x 2 (w &&& ag_m 2) = ag_w 2 w := by rw [ag_m_2, ag_x_2, ag_w_2, ag_L2]
  have h3 : ag_x 3 (w &&& ag_m 3) = ag_w 3 w := by rw [ag_m_3, ag_x_3, ag_w_3, ag_L3]
  have h4 : ag_x 4 (w &&& ag_m 4) = ag_w 4 w := by rw [ag_m_4, ag_x_4, ag_w_4, ag_L4]
  have h5 : ag_x 5 (w &&& ag_m 5) = ag_w 5 w := by rw [ag_m_5, ag_x_5, ag_w_5, Int64.and_neg_one]
  rcases h with ⟨rfl, rfl⟩ | ⟨rfl, rfl⟩ | ⟨rfl, rfl⟩ | ⟨rfl, rfl⟩ | ⟨rfl, rfl⟩ | ⟨rfl, rfl⟩ | ⟨rfl, rfl⟩ | ⟨rfl, rfl⟩ | ⟨rfl, rfl⟩ | ⟨rfl, rfl⟩ | ⟨rfl, rfl⟩ | ⟨rfl, rfl⟩ | ⟨rfl, rfl⟩ | ⟨rfl, rfl⟩
  · rw [ag_m_0, ag_x_0, ag_r_0, ag_w_0, ag_L0, Int64.and_assoc, Int64.and_self]
  · rw [h1, ag_m_1, ag_r_1]
  · rw [h1, ag_m_3, ag_r_3]
  · rw [h1, ag_m_4, ag_r_4]
  · rw [h1, ag_m_5, ag_r_5, Int64.and_neg_one]
  · rw [h2, ag_m_2, ag_r_2]
  · rw [h2, ag_m_4, ag_r_4]
  · rw [h2, ag_m_5, ag_r_5, Int64.and_neg_one]
  · rw [h3, ag_m_3, ag_r_3]
  · rw [h3, ag_m_4, ag_r_4]
  · rw [h3, ag_m_5, ag_r_5, Int64.and_neg_one]
  · rw [h4, ag_m_4, ag_r_4]
  · rw [h4, ag_m_5, ag_r_5, Int64.and_neg_one]
  · rw [h5, ag_m_5, ag_r_5, Int64.and_neg_one]
theorem ag_C8 {e : Int32} {x l : Int64} {b c s i : Int32} (h : ag_9 e) (hC : ag_C e x b c s i l) : x = ag_r (ag_v e b c s i l) e := by
  obtain ⟨w, h1, h2⟩ := hC
  rw [h1, h2, ag_P8 h]
theorem ag_CK {e k : Int32} {x l : Int64} {b c s i : Int32} (h : ag_ok e k) (hC : ag_C e x b c s i l) : ag_x e x &&& ag_m k = ag_r (ag_v e b c s i l) k := by
  obtain ⟨w, h1, h2⟩ := hC
  rw [h1, h2, ag_PK h]
theorem ag_C0 {e : Int32} (h : ag_9 e) : ag_C e 0 0 0 0 0 0 := by
  refine ⟨0, ?_⟩
  rcases h with rfl | rfl | rfl | rfl | rfl | rfl | rfl | rfl | rfl <;> exact ⟨by decide, by decide⟩
/-! the relation -/
/-- a type whose elements are of kind e -/
def ag_T (t e : Int32) : Prop := ¬ t = 0 ∧ ¬ t / 256 = 0 ∧ ((t / 256 = 1 ∧ 8 < t - t / 256 * 256 ∧ e = 8) ∨ (t / 256 = 1 ∧ ¬ 8 < t - t / 256 * 256 ∧ e = t - t / 256 * 256 - 1) ∨ (¬ t / 256 = 1 ∧ e = 8))
def ag_R (st ek ln : Int32) (x : Nat → Int64) (ty : Int32) (b c s i : Nat → Int32) (l : Nat → Int64) : Prop :=
  (st = 0 ∧ ty = 0) ∨ (st = 1 ∧ ¬ ty = 0 ∧ ty / 256 = 0) ∨ (st = 2 ∧ ag_9 ek ∧ ag_T ty ek ∧ ln ≤ 8 ∧ ∀ j, j < 8 → ag_C ek (x j) (b j) (c j) (s j) (i j) (l j))
def i_Rel (_ : Nat) (u : SX) (v : SY) : Prop := ∃ (st ek ln : Int32) (lb : Int64) (lk : Int32) (x : Nat → Int64) (ty : Int32) (b c s i : Nat → Int32) (l : Nat → Int64), u = (st, ek, ln, lb, lk, x) ∧ v = (ty, ln, lk, lb, b, c, s, i, l) ∧ ag_R st ek ln x ty b c s i l
theorem i_up {k : Nat} {u : SX} {v : SY} (h : i_Rel k u v) : i_Rel (k + 4) u v := h
theorem ag_mk {k : Nat} {st ek ln : Int32} {lb : Int64} {lk : Int32} {x : Nat → Int64} {ty : Int32} {b c s i : Nat → Int32} {l : Nat → Int64} (h : ag_R st ek ln x ty b c s i l) : i_Rel k (st, ek, ln, lb, lk, x) (ty, ln, lk, lb, b, c, s, i, l) :=
  ⟨st, ek, ln, lb, lk, x, ty, b, c, s, i, l, rfl, rfl, h⟩
theorem i_vc0 : wpX_init (fun u => wpY_init (fun v => i_Rel 0 u v)) := ag_mk (k := 0) (Or.inl ⟨rfl, rfl⟩)
end
section
/-! the own methods, each once, with a general post -/
theorem ag_mask {post : Int64 → Prop} {e : Int32} (h : post (ag_m e)) : wpX_maskOf post e := by
  unfold ag_m at h
  refine br_c (fun z => ?_) (fun n0 => br_c (fun z => ?_) (fun n1 => br_c (fun z => ?_) (fun n2 => br_c (fun z => ?_) (fun n3 => br_c (fun z => ?_) (fun n4 => br_c (fun z => ?_) (fun n6 => ?_))))))
  · rwa [if_pos z] at h
  · rwa [if_neg n0, if_pos z] at h
  · rwa [if_neg n0, if_neg n1, if_pos z] at h
  · rwa [if_neg n0, if_neg n1, if_neg n2, if_pos z] at h
  · rwa [if_neg n0, if_neg n1, if_neg n2, if_neg n3, if_pos z] at h
  · rwa [if_neg n0, if_neg n1, if_neg n2, if_neg n3, if_neg n4, if_pos z] at h
  · rwa [if_neg n0, if_neg n1, if_neg n2, if_neg n3, if_neg n4, if_neg n6] at h
/-- the reference's element kind is e -/
def ag_E (v : SY) (e : Int32) : Prop := ∀ post : Int32 → Prop, post e → wpY_elem post v
section
variable {ty ln lk : Int32} {lb : Int64} {b c s i : Nat → Int32} {l : Nat → Int64}
theorem ag_E0 : ag_E (0, ln, lk, lb, b, c, s, i, l) (-2) := fun _ h => br_t rfl h
theorem ag_E1 (h0 : ¬ ty = 0) (h1 : ty / 256 = 0) : ag_E (ty, ln, lk, lb, b, c, s, i, l) (-1) := fun _ h => br_f h0 ⟨by decide, br_t h1 h⟩
theorem ag_E2 {e : Int32} (h : ag_T ty e) : ag_E (ty, ln, lk, lb, b, c, s, i, l) e := by
  intro post hp
  obtain ⟨h0, h1, h2⟩ := h
  rcases h2 with ⟨h3, h4, rfl⟩ | ⟨h3, h4, rfl⟩ | ⟨h3, rfl⟩
  · exact br_f h0 ⟨by decide, br_f h1 ⟨by decide, br_t h3 ⟨by decide, br_t h4 hp⟩⟩⟩
  · exact br_f h0 ⟨by decide, br_f h1 ⟨by decide, br_t h3 ⟨by decide, br_f h4 ⟨by decide, hp⟩⟩⟩⟩
  · exact br_f h0 ⟨by decide, br_f h1 ⟨by decide, br_f h3 hp⟩⟩
theorem ag_value {post : Int64 → Prop} {e x : Int32} (he : ag_9 e) (hx : vp_in x 8) (h : post (ag_v e (b x.toNatClampNeg) (c x.toNatClampNeg) (s x.toNatClampNeg) (i x.toNatClampNeg) (l x.toNatClampNeg))) : wpY_value post (ty, ln, lk, lb, b, c, s, i, l) e x := by
  rcases he with rfl | rfl | rfl | rfl | rfl | rfl | rfl | rfl | rfl
  · exact br_f (by decide) (br_f (by decide) (br_t rfl ⟨hx, h⟩))
  · exact br_f (by decide) (br_f (by decide) (br_f (by decide) (br_t rfl ⟨hx, h⟩)))
  · exact br_f (by decide) (br_f (by decide) (br_f (by decide) (br_f (by decide) (br_t rfl ⟨hx, h⟩))))
  · exact br_f (by decide) (br_f (by decide) (br_f (by decide) (br_f (by decide) (br_f (by decide) (br_t rfl ⟨hx, h⟩)))))
  · exact br_f (by decide) (br_f (by decide) (br_f (by decide) (br_f (by decide) (br_f (by decide) (br_f (by decide) (br_t rfl ⟨hx, h⟩))))))
  · exact br_f (by decide) (br_f (by decide) (br_f (by decide) (br_f (by decide) (br_f (by decide) (br_f (by decide) (br_f (by decide) (br_t rfl ⟨hx, h⟩)))))))
  · exact br_f (by decide) (br_f (by decide) (br_f (by decide) (br_f (by decide) (br_f (by decide) (br_f (by decide) (br_f (by decide) (br_f (by decide) (br_t rfl ⟨hx, h⟩))))))))
  · exact br_f (by decide) (br_t (by decide) ⟨hx, h⟩)
  · exact br_f (by decide) (br_t (by decide) ⟨hx, h⟩)
end
theorem ag_raw {post : Int64 → Prop} {v : Int64} {k : Int32} (hk : ag_9 k) (h : post (ag_r v k)) : wpY_raw post v k := by
  rcases hk with rfl | rfl | rfl | rfl | rfl | rfl | rfl | rfl | rfl
  · exact br_t (by decide) h
  · exact br_f (by decide) (br_f (by decide) (br_t rfl h))
  · exact br_f (by decide) (br_f (by decide) (br_f (by decide) (br_t rfl h)))
  · exact br_f (by decide) (br_f (by decide) (br_f (by decide) (br_f (by decide) (br_t rfl h))))
  · exact br_f (by decide) (br_f (by decide) (br_f (by decide) (br_f (by decide) (br_f (by decide) (br_t rfl h)))))
  · exact br_f (by decide) (br_f (by decide) (br_f (by decide) (br_f (by decide) (br_f (by decide) (br_f (by decide) (br_t rfl h))))))
  · exact br_f (by decide) (br_f (by decide) (br_f (by decide) (br_f (by decide) (br_f (by decide) (br_f (by decide) (br_f (by decide) (br_t rfl h)))))))
  · exact br_f (by decide) (br_t (by decide) h)
  · exact br_f (by decide) (br_t (by decide) h)
theorem ag_9ge {e : Int32} (h : ag_9 e) : 0 ≤ e ∧ ¬ e = -2 ∧ ¬ e = -1 := by
  rcases h with rfl | rfl | rfl | rfl | rfl | rfl | rfl | rfl | rfl <;> decide
/-! the three methods that only read -/
theorem i_vc_lastBits {k : Nat} {u : SX} {v : SY} (I : i_Rel k u v) (hk : k + 4 ≤ 2048) : wpX_lastBits (fun r => wpY_lastBits (fun r' => r' = r ∧ i_Rel (k + 4) u v) v) u := by
  obtain ⟨st, ek, ln, lb, lk, x, ty, b, c, s, i, l, rfl, rfl, h⟩ := I
  exact ⟨rfl, ag_mk (k := k + 4) h⟩
theorem i_vc_lastKind {k : Nat} {u : SX} {v : SY} (I : i_Rel k u v) (hk : k + 4 ≤ 2048) : wpX_lastKind (fun r => wpY_lastKind (fun r' => r' = r ∧ i_Rel (k + 4) u v) v) u := by
  obtain ⟨st, ek, ln, lb, lk, x, ty, b, c, s, i, l, rfl, rfl, h⟩ := I
  exact ⟨rfl, ag_mk (k := k + 4) h⟩
theorem ag_ylen {post : Int32 → Prop} {ty ln lk : Int32} {lb : Int64} {b c s i : Nat → Int32} {l : Nat → Int64} {e : Int32} (hE : ag_E (ty, ln, lk, lb, b, c, s, i, l) e) (h : (e = -2 → post (-1)) ∧ (¬ e = -2 → ((e = -1 → post (-2)) ∧ (¬ e = -1 → post ln)))) : wpY_length post (ty, ln, lk, lb, b, c, s, i, l) := by
  unfold wpY_length
  exact hE _ h
theorem i_vc_length {k : Nat} {u : SX} {v : SY} (I : i_Rel k u v) (hk : k + 4 ≤ 2048) : wpX_length (fun r => wpY_length (fun r' => r' = r ∧ i_Rel (k + 4) u v) v) u := by
  obtain ⟨st, ek, ln, lb, lk, x, ty, b, c, s, i, l, rfl, rfl, h⟩ := I
  have M := ag_mk (k := k + 4) (lb := lb) (lk := lk) h
  rcases h with ⟨rfl, rfl⟩ | ⟨rfl, h1, h2⟩ | ⟨rfl, h9, hT, hl, hC⟩
  · exact br_t rfl (ag_ylen ag_E0 (br_t rfl ⟨rfl, M⟩))
  · exact br_f (by decide) (br_f (by decide) (ag_ylen (ag_E1 h1 h2) (br_f (by decide) (br_t rfl ⟨rfl, M⟩))))
  · exact br_f (by decide) (br_t rfl (ag_ylen (ag_E2 hT) (br_f (ag_9ge h9).2.1 (br_f (ag_9ge h9).2.2 ⟨rfl, M⟩))))
end
section
/-! load: the two loops, the split of a type, the walk -/
theorem ag_xl {post : Int32 → SX → Prop} {st ek ln : Int32} {lb : Int64} {lk : Int32} (x : Nat → Int64) (h : ∀ y : Nat → Int64, (∀ j, j < 8 → y j = 0) → post 0 (st, ek, ln, lb, lk, y)) : ∃ n : Nat, wX_load_144 post st ek ln lb lk n 0 x :=
  loop_0 (fun n i y => wX_load_144 post st ek ln lb lk n (nI i) y) (fun i y => ∀ j, j < i → y j = 0) 8 x
    (fun j hj => absurd hj (Nat.not_lt_zero j))
    (fun n y hy => br_t (by decide) (h y hy))
    (fun n i y hi hy K => br_f (nI_ge (b := 8) hi (by decide)) ⟨vp_in_nI hi (by decide), fun a ea z ez => by
      rw [nI_clamp (by omega)] at ea
      rw [nI_1] at ez
      subst ea ez
      refine K _ (fun j hj => ?_)
      by_cases hji : j = i
      · subst hji; exact pk_uLs
      · rw [pk_uLn hji]; exact hy j (by omega)⟩)
/-- all five arrays are zero below m -/
def ag_Z (m : Nat) (b c s i : Nat → Int32) (l : Nat → Int64) : Prop := ∀ j, j < m → b j = 0 ∧ c j = 0 ∧ s j = 0 ∧ i j = 0 ∧ l j = 0
theorem ag_Zs {m : Nat} {b c s i : Nat → Int32} {l : Nat → Int64} (h : ag_Z m b c s i l) : ag_Z (m + 1) (upd b m 0) (upd c m 0) (upd s m 0) (upd i m 0) (vp_updL l m 0) := by
  intro j hj
  by_cases e : j = m
  · subst e; exact ⟨pk_us, pk_us, pk_us, pk_us, pk_uLs⟩
  · rw [pk_un e, pk_un e, pk_un e, pk_un e, pk_uLn e]; exact h j (by omega)
theorem ag_n1 : vp_nar .byte 0 = 0 := by rw [vp_nar_byte]; decide
theorem ag_n2 : (0 : Int32).toInt16.toInt32 = 0 := by decide
theorem ag_n3 : vp_nar .short 0 = 0 := by rw [vp_nar_short]; decide
theorem ag_n4 : vp_nar .char 0 = 0 := by rw [vp_nar_char]; decide
theorem ag_n5 : (0 : Int32).toInt64 = 0 := by decide
theorem ag_yl {post : Int32 → SY → Prop} {ty ln lk : Int32} {lb : Int64} (b c s i : Nat → Int32) (l : Nat → Int64) (h : ∀ (b c s i : Nat → Int32) (l : Nat → Int64), ag_Z 8 b c s i l → post 0 (ty, ln, lk, lb, b, c, s, i, l)) : ∃ n : Nat, wY_load_104 post ty ln lk lb n 0 b c s i l :=
  loop_0 (σ := (Nat → Int32) × (Nat → Int32) × (Nat → Int32) × (Nat → Int32) × (Nat → Int64)) (fun n m y => wY_load_104 post ty ln lk lb n (nI m) y.1 y.2.1 y.2.2.1 y.2.2.2.1 y.2.2.2.2) (fun m y => ag_Z m y.1 y.2.1 y.2.2.1 y.2.2.2.1 y.2.2.2.2) 8 (b, c, s, i, l)
    (fun j hj => absurd hj (Nat.not_lt_zero j))
    (fun n y hy => br_t (by decide) (h _ _ _ _ _ hy))
    (fun n m y hm hy K => by
      have hin : vp_in (nI m) 8 := vp_in_nI hm (by decide)
      refine br_f (nI_ge (b := 8) hm (by decide)) ⟨hin, fun a1 e1 => ⟨hin, fun a2 e2 => ⟨hin, fun a3 e3 => ⟨hin, fun a4 e4 => ⟨hin, fun a5 e5 z ez => ?_⟩⟩⟩⟩⟩
      rw [nI_clamp (by omega), ag_n1] at e1
      rw [nI_clamp (by omega), ag_n2, ag_n3] at e2
      rw [nI_clamp (by omega), ag_n2] at e3
      rw [nI_clamp (by omega), ag_n2, ag_n5] at e4
      rw [nI_clamp (by omega), ag_n4] at e5
      rw [nI_1] at ez
      subst e1 e2 e3 e4 e5 ez
      exact K (_, _, _, _, _) (ag_Zs hy))
theorem ag_hi (p : Int32) (h : (p &&& (-65536)) = 0) : ∃ j : Nat, j < 65536 ∧ p = nI j := by
  obtain ⟨j, hj, e⟩ := pk_andE p (m := 65535) 16 (by decide)
  refine ⟨j, hj, ?_⟩
  have e2 : p = (p &&& 65535) ||| (p &&& (-65536)) := by
    apply Int32.toBitVec_inj.mp
    rw [Int32.toBitVec_or, Int32.toBitVec_and, Int32.toBitVec_and, ← BitVec.and_or_distrib_left, show (65535 : Int32).toBitVec ||| (-65536 : Int32).toBitVec = BitVec.allOnes 32 from by decide, BitVec.and_allOnes]
  rw [e2, h, e, Int32.or_zero]
theorem ag_lo {j : Nat} (h : j < 65536) : (nI j &&& (-65536)) = 0 := by
  have e : nI j = nI j &&& 65535 := by
    rw [pk_andN (by omega) 16 (by decide), Nat.mod_eq_of_lt (by omega)]
  rw [e, Int32.and_assoc, show (65535 : Int32) &&& (-65536) = 0 from by decide, Int32.and_zero]
theorem ag_bx {j : Nat} (h : j < 65536) : nI j &&& 255 = nI (j % 256) := pk_andN (by omega) 8 (by decide)
theorem ag_dx {j : Nat} (h : j < 65536) : (((nI j).toUInt32 >>> ((8 : Int32).toUInt32 &&& Int32.toUInt32 31)).toInt32) &&& 255 = nI (j / 256) := by
  rw [pk_ushrN (by omega) 8 8 (by decide), pk_andN (by omega) 8 (by decide)]
  exact congrArg nI (by omega)
theorem ag_by {j : Nat} (h : j < 65536) : nI j - nI j / 256 * 256 = nI (j % 256) := pk_rem (d := 256) (by omega) (by decide) (by decide)
theorem ag_dy {j : Nat} (h : j < 65536) : nI j / 256 = nI (j / 256) := pk_div (d := 256) (by omega) (by decide) (by decide)
theorem ag_b9 {m : Nat} (h : m < 256) (h0 : ¬ nI m = 0) (h8 : ¬ 8 < nI m) : ag_9 (nI m - 1) := by
  have g : m ≤ 8 := by
    rcases Nat.lt_or_ge 8 m with z | z
    · exact absurd (nI_lt (a := 8) z (by omega)) h8
    · exact z
  match m, g, h0 with
  | 0, _, h0 => exact absurd nI_0 h0
  | 1, _, _ => exact Or.inl (by decide)
  | 2, _, _ => exact Or.inr (Or.inl (by decide))
  | 3, _, _ => exact Or.inr (Or.inr (Or.inl (by decide)))
  | 4, _, _ => exact Or.inr (Or.inr (Or.inr (Or.inl (by decide))))
  | 5, _, _ => exact Or.inr (Or.inr (Or.inr (Or.inr (Or.inl (by decide)))))
  | 6, _, _ => exact Or.inr (Or.inr (Or.inr (Or.inr (Or.inr (Or.inl (by decide))))))
  | 7, _, _ => exact Or.inr (Or.inr (Or.inr (Or.inr (Or.inr (Or.inr (Or.inl (by decide)))))))
  | 8, _, _ => exact Or.inr (Or.inr (Or.inr (Or.inr (Or.inr (Or.inr (Or.inr (Or.inl (by decide))))))))
theorem ag_98 : ag_9 8 := Or.inr (Or.inr (Or.inr (Or.inr (Or.inr (Or.inr (Or.inr (Or.inr rfl)))))))
/-- after a load of an array: all cells zero on both sides -/
theorem ag_new {ek ln ty : Int32} {x : Nat → Int64} {b c s i : Nat → Int32} {l : Nat → Int64} (h9 : ag_9 ek) (hT : ag_T ty ek) (hl : ln ≤ 8) (hx : ∀ j, j < 8 → x j = 0) (hy : ag_Z 8 b c s i l) : ag_R 2 ek ln x ty b c s i l := by
  refine Or.inr (Or.inr ⟨rfl, h9, hT, hl, fun j hj => ?_⟩)
  obtain ⟨h1, h2, h3, h4, h5⟩ := hy j hj
  rw [hx j hj, h1, h2, h3, h4, h5]
  exact ag_C0 h9
/-- the reference's walk to its loop -/
theorem ag_ywalk {post : Int32 → SY → Prop} {ty ln lk : Int32} {lb : Int64} {b c s i : Nat → Int32} {l : Nat → Int64} {j : Nat} {p1 : Int32} (hj : j < 65536) (h0 : ¬ nI j = 0) (hb0 : ¬ nI (j % 256) = 0) (hb9 : ¬ nI (j % 256) = 9) (hd : ¬ nI (j / 256) = 0) (hn : ¬ p1 < 0) (hn8 : p1 ≤ 8) (h : ∀ (b c s i : Nat → Int32) (l : Nat → Int64), ag_Z 8 b c s i l → post 0 (nI j, p1, lk, lb, b, c, s, i, l)) : wpY_load post (ty, ln, lk, lb, b, c, s, i, l) (nI j) p1 :=
  br_f h0 (br_f (nI_pos (by omega)) (br_t (nI_le (b := 65535) (by omega) (by decide)) ⟨by decide, nm_r (ag_by hj) ⟨by decide, nm_r (ag_dy hj) (br_f hb0 (br_f hb9 (br_f hd (br_f hn (br_t hn8 (ag_yl b c s i l h))))))⟩⟩))
theorem i_vc_load {k : Nat} {u : SX} {v : SY} (I : i_Rel k u v) (hk : k + 4 ≤ 2048) (v1 : Int32) (v2 : Int32) : wpX_load (fun r u' => wpY_load (fun r' v' => r' = r ∧ i_Rel (k + 4) u' v') v v1 v2) u v1 v2 := by
  obtain ⟨st, ek, ln, lb, lk, x, ty, b, c, s, i, l, rfl, rfl, h⟩ := I
  have M := ag_mk (k := k + 4) (lb := lb) (lk := lk) h
  by_cases h0 : v1 = 0
  · exact br_t h0 (br_t h0 ⟨rfl, ag_mk (k := k + 4) (Or.inl ⟨rfl, rfl⟩)⟩)
  refine br_f h0 ?_
  by_cases hh : (v1 &&& (-65536)) = 0
  · refine br_t hh ?_
    obtain ⟨j, hj, rfl⟩ := ag_hi v1 hh
    refine nm_r (ag_bx hj) (nm_r (ag_dx hj) ?_)
    have y1 : ¬ nI j < 0 := nI_pos (by omega)
    have y2 : nI j ≤ 65535 := nI_le (b := 65535) (by omega) (by decide)
    by_cases hb0 : nI (j % 256) = 0
    · exact br_t hb0 (br_f h0 (br_f y1 (br_t y2 ⟨by decide, nm_r (ag_by hj) ⟨by decide, nm_r (ag_dy hj) (br_t hb0 ⟨rfl, M⟩)⟩⟩)))
    refine br_f hb0 ?_
    by_cases hb9 : nI (j % 256) = 9
    · exact br_t hb9 (br_f h0 (br_f y1 (br_t y2 ⟨by decide, nm_r (ag_by hj) ⟨by decide, nm_r (ag_dy hj) (br_f hb0 (br_t hb9 ⟨rfl, M⟩))⟩⟩)))
    refine br_f hb9 ?_
    by_cases hd : nI (j / 256) = 0
    · refine br_t hd ?_
      by_cases hb8 : 8 < nI (j % 256)
      · exact br_t hb8 (br_f h0 (br_f y1 (br_t y2 ⟨by decide, nm_r (ag_by hj) ⟨by decide, nm_r (ag_dy hj) (br_f hb0 (br_f hb9 (br_t hd (br_t hb8 ⟨rfl, ag_mk (k := k + 4) (Or.inr (Or.inl ⟨rfl, h0, (ag_dy hj).trans hd⟩))⟩))))⟩⟩)))
      · exact br_f hb8 (br_f h0 (br_f y1 (br_t y2 ⟨by decide, nm_r (ag_by hj) ⟨by decide, nm_r (ag_dy hj) (br_f hb0 (br_f hb9 (br_t hd (br_f hb8 ⟨rfl, M⟩))))⟩⟩)))
    refine br_f hd ?_
    have hd' : ¬ nI j / 256 = 0 := by rw [ag_dy hj]; exact hd
    by_cases hn : v2 < 0
    · exact br_t hn (br_f h0 (br_f y1 (br_t y2 ⟨by decide, nm_r (ag_by hj) ⟨by decide, nm_r (ag_dy hj) (br_f hb0 (br_f hb9 (br_f hd (br_t hn ⟨rfl, M⟩))))⟩⟩)))
    refine br_f hn ?_
    by_cases hn8 : v2 ≤ 8
    · refine br_t hn8 ?_
      by_cases hd1 : nI (j / 256) = 1
      · refine br_t hd1 ?_
        have hd1' : nI j / 256 = 1 := (ag_dy hj).trans hd1
        by_cases hb8 : 8 < nI (j % 256)
        · have hT : ag_T (nI j) 8 := ⟨h0, hd', Or.inl ⟨hd1', by rw [ag_by hj]; exact hb8, rfl⟩⟩
          exact br_t hb8 (ag_xl x (fun y hy => ag_ywalk hj h0 hb0 hb9 hd hn hn8 (fun b c s i l hz => ⟨rfl, ag_mk (k := k + 4) (ag_new ag_98 hT hn8 hy hz)⟩)))
        · have hT : ag_T (nI j) (nI (j % 256) - 1) := ⟨h0, hd', Or.inr (Or.inl ⟨hd1', by rw [ag_by hj]; exact hb8, by rw [ag_by hj]⟩)⟩
          have h9 : ag_9 (nI (j % 256) - 1) := ag_b9 (Nat.mod_lt _ (by decide)) hb0 hb8
          exact br_f hb8 (nm_e (ag_xl x (fun y hy => ag_ywalk hj h0 hb0 hb9 hd hn hn8 (fun b c s i l hz => ⟨rfl, ag_mk (k := k + 4) (ag_new h9 hT hn8 hy hz)⟩))))
      · have hT : ag_T (nI j) 8 := ⟨h0, hd', Or.inr (Or.inr ⟨by rw [ag_dy hj]; exact hd1, rfl⟩)⟩
        exact br_f hd1 (ag_xl x (fun y hy => ag_ywalk hj h0 hb0 hb9 hd hn hn8 (fun b c s i l hz => ⟨rfl, ag_mk (k := k + 4) (ag_new ag_98 hT hn8 hy hz)⟩)))
    · exact br_f hn8 (br_f h0 (br_f y1 (br_t y2 ⟨by decide, nm_r (ag_by hj) ⟨by decide, nm_r (ag_dy hj) (br_f hb0 (br_f hb9 (br_f hd (br_f hn (br_f hn8 ⟨rfl, M⟩)))))⟩⟩)))
  · refine br_f hh ?_
    by_cases hn : v1 < 0
    · exact br_f h0 (br_t hn ⟨rfl, M⟩)
    · by_cases h6 : v1 ≤ 65535
      · obtain ⟨j, hj, rfl⟩ := nI_of2 (n := 65535) (by decide) hn h6
        exact absurd (ag_lo (by omega)) hh
      · exact br_f h0 (br_f hn (br_f h6 ⟨rfl, M⟩))
end
section
/-! poke -/
section
variable {post : Int32 → SY → Prop} {ty ln lk : Int32} {lb : Int64} {b c s i : Nat → Int32} {l : Nat → Int64} {e x : Int32} {p : Int64}
theorem ag_pk1 (hE : ag_E (ty, ln, lk, lb, b, c, s, i, l) e) (he : ¬ 0 ≤ e) (h : post (-1) (ty, ln, lk, lb, b, c, s, i, l)) : wpY_poke post (ty, ln, lk, lb, b, c, s, i, l) x p := by
  unfold wpY_poke
  exact hE _ (br_f he h)
theorem ag_pk2 (hE : ag_E (ty, ln, lk, lb, b, c, s, i, l) e) (he : 0 ≤ e) (hx : x < 0) (h : post (-2) (ty, ln, lk, lb, b, c, s, i, l)) : wpY_poke post (ty, ln, lk, lb, b, c, s, i, l) x p := by
  unfold wpY_poke
  exact hE _ (br_t he (br_t hx h))
theorem ag_pk3 (hE : ag_E (ty, ln, lk, lb, b, c, s, i, l) e) (he : 0 ≤ e) (hx : ¬ x < 0) (hl : ¬ x < ln) (h : post (-2) (ty, ln, lk, lb, b, c, s, i, l)) : wpY_poke post (ty, ln, lk, lb, b, c, s, i, l) x p := by
  unfold wpY_poke
  exact hE _ (br_t he (br_f hx (br_f hl h)))
theorem ag_ps0 (hE : ag_E (ty, ln, lk, lb, b, c, s, i, l) 0) (hx : ¬ x < 0) (hl : x < ln) (hin : vp_in x 8) (h : post 0 (ty, ln, lk, lb, upd b x.toNatClampNeg (((p &&& 1).toInt32).toInt8.toInt32), c, s, i, l)) : wpY_poke post (ty, ln, lk, lb, b, c, s, i, l) x p := by
  unfold wpY_poke
  exact hE _ (br_t (by decide) (br_f hx (br_t hl (br_f (by decide) (br_f (by decide) (br_t rfl ⟨hin, nm_r (congrArg (upd b x.toNatClampNeg) (pk_vb _)) h⟩))))))
theorem ag_ps1 (hE : ag_E (ty, ln, lk, lb, b, c, s, i, l) 1) (hx : ¬ x < 0) (hl : x < ln) (hin : vp_in x 8) (h : post 0 (ty, ln, lk, lb, upd b x.toNatClampNeg p.toInt32.toInt8.toInt32, c, s, i, l)) : wpY_poke post (ty, ln, lk, lb, b, c, s, i, l) x p := by
  unfold wpY_poke
  exact hE _ (br_t (by decide) (br_f hx (br_t hl (br_f (by decide) (br_f (by decide) (br_f (by decide) (br_t rfl ⟨hin, nm_r (congrArg (upd b x.toNatClampNeg) (pk_vb _)) h⟩)))))))
theorem ag_ps2 (hE : ag_E (ty, ln, lk, lb, b, c, s, i, l) 2) (hx : ¬ x < 0) (hl : x < ln) (hin : vp_in x 8) (h : post 0 (ty, ln, lk, lb, b, upd c x.toNatClampNeg (p.toInt32.toUInt32 % 65536).toInt32, s, i, l)) : wpY_poke post (ty, ln, lk, lb, b, c, s, i, l) x p := by
  unfold wpY_poke
  exact hE _ (br_t (by decide) (br_f hx (br_t hl (br_f (by decide) (br_f (by decide) (br_f (by decide) (br_f (by decide) (br_t rfl ⟨hin, nm_r (congrArg (upd c x.toNatClampNeg) (pk_vc _)) h⟩))))))))
theorem ag_ps3 (hE : ag_E (ty, ln, lk, lb, b, c, s, i, l) 3) (hx : ¬ x < 0) (hl : x < ln) (hin : vp_in x 8) (h : post 0 (ty, ln, lk, lb, b, c, upd s x.toNatClampNeg p.toInt32.toInt16.toInt32, i, l)) : wpY_poke post (ty, ln, lk, lb, b, c, s, i, l) x p := by
  unfold wpY_poke
  exact hE _ (br_t (by decide) (br_f hx (br_t hl (br_f (by decide) (br_f (by decide) (br_f (by decide) (br_f (by decide) (br_f (by decide) (br_t rfl ⟨hin, nm_r (congrArg (upd s x.toNatClampNeg) (pk_vs _)) h⟩)))))))))
theorem ag_ps4 (hE : ag_E (ty, ln, lk, lb, b, c, s, i, l) 4) (hx : ¬ x < 0) (hl : x < ln) (hin : vp_in x 8) (h : post 0 (ty, ln, lk, lb, b, c, s, upd i x.toNatClampNeg p.toInt32, l)) : wpY_poke post (ty, ln, lk, lb, b, c, s, i, l) x p := by
  unfold wpY_poke
  exact hE _ (br_t (by decide) (br_f hx (br_t hl (br_f (by decide) (br_f (by decide) (br_f (by decide) (br_f (by decide) (br_f (by decide) (br_f (by decide) (br_t rfl (And.intro hin (nm_e h))))))))))))
theorem ag_ps5 (hE : ag_E (ty, ln, lk, lb, b, c, s, i, l) 5) (hx : ¬ x < 0) (hl : x < ln) (hin : vp_in x 8) (h : post 0 (ty, ln, lk, lb, b, c, s, i, vp_updL l x.toNatClampNeg p)) : wpY_poke post (ty, ln, lk, lb, b, c, s, i, l) x p := by
  unfold wpY_poke
  exact hE _ (br_t (by decide) (br_f hx (br_t hl (br_f (by decide) (br_f (by decide) (br_f (by decide) (br_f (by decide) (br_f (by decide) (br_f (by decide) (br_f (by decide) (br_t rfl ⟨hin, nm_e h⟩)))))))))))
theorem ag_ps6 (hE : ag_E (ty, ln, lk, lb, b, c, s, i, l) 6) (hx : ¬ x < 0) (hl : x < ln) (hin : vp_in x 8) (h : post 0 (ty, ln, lk, lb, b, c, s, upd i x.toNatClampNeg p.toInt32, l)) : wpY_poke post (ty, ln, lk, lb, b, c, s, i, l) x p := by
  unfold wpY_poke
  exact hE _ (br_t (by decide) (br_f hx (br_t hl (br_f (by decide) (br_f (by decide) (br_f (by decide) (br_f (by decide) (br_f (by decide) (br_f (by decide) (br_f (by decide) (br_f (by decide) (br_t rfl (And.intro hin (nm_e h))))))))))))))
theorem ag_ps7 (hE : ag_E (ty, ln, lk, lb, b, c, s, i, l) 7) (hx : ¬ x < 0) (hl : x < ln) (hin : vp_in x 8) (h : post 0 (ty, ln, lk, lb, b, c, s, i, vp_updL l x.toNatClampNeg p)) : wpY_poke post (ty, ln, lk, lb, b, c, s, i, l) x p := by
  unfold wpY_poke
  exact hE _ (br_t (by decide) (br_f hx (br_t hl (br_f (by decide) (br_t (by decide) ⟨hin, nm_e h⟩)))))
theorem ag_ps8 (hE : ag_E (ty, ln, lk, lb, b, c, s, i, l) 8) (hx : ¬ x < 0) (hl : x < ln) (hin : vp_in x 8) (h : post 0 (ty, ln, lk, lb, b, c, s, i, vp_updL l x.toNatClampNeg p)) : wpY_poke post (ty, ln, lk, lb, b, c, s, i, l) x p := by
  unfold wpY_poke
  exact hE _ (br_t (by decide) (br_f hx (br_t hl (br_f (by decide) (br_t (by decide) ⟨hin, nm_e h⟩)))))
end
theorem ag_in8 {x ln : Int32} (h0 : ¬ x < 0) (h1 : x < ln) (h8 : ln ≤ 8) : ∃ j : Nat, j < 8 ∧ x = nI j := by
  obtain ⟨j, hj, rfl⟩ := nI_of h0
  refine ⟨j, ?_, rfl⟩
  rw [Int32.lt_iff_toInt_lt, nI_toInt hj] at h1
  rw [Int32.le_iff_toInt_le, show (8 : Int32).toInt = 8 from by decide] at h8
  omega
/-- X's walk of a store -/
theorem ag_xp {post : Int32 → SX → Prop} {ek ln : Int32} {lb : Int64} {lk : Int32} {y : Nat → Int64} {x : Int32} {p : Int64} (hx : ¬ x < 0) (hl : x < ln) (hin : vp_in x 8) (h : post 0 (2, ek, ln, lb, lk, vp_updL y x.toNatClampNeg (p &&& ag_m ek))) : wpX_poke post (2, ek, ln, lb, lk, y) x p := by
  unfold wpX_poke
  exact br_t rfl (br_f hx (br_t hl (ag_mask ⟨hin, nm_e h⟩)))
/-- a store at m keeps the relation of the cells, if it does so at m and leaves the others -/
theorem ag_st {e : Int32} {x x' : Nat → Int64} {b b' c c' s s' i i' : Nat → Int32} {l l' : Nat → Int64} (m : Nat) (hC : ∀ j, j < 8 → ag_C e (x j) (b j) (c j) (s j) (i j) (l j)) (hm : ag_C e (x' m) (b' m) (c' m) (s' m) (i' m) (l' m)) (hx : ∀ j, j ≠ m → x' j = x j) (hb : ∀ j, j ≠ m → b' j = b j) (hc : ∀ j, j ≠ m → c' j = c j) (hs : ∀ j, j ≠ m → s' j = s j) (hi : ∀ j, j ≠ m → i' j = i j) (hl : ∀ j, j ≠ m → l' j = l j) : ∀ j, j < 8 → ag_C e (x' j) (b' j) (c' j) (s' j) (i' j) (l' j) := by
  intro j hj
  by_cases z : j = m
  · subst z; exact hm
  · rw [hx j z, hb j z, hc j z, hs j z, hi j z, hl j z]; exact hC j hj
theorem i_vc_poke {k : Nat} {u : SX} {v : SY} (I : i_Rel k u v) (hk : k + 4 ≤ 2048) (v1 : Int32) (a1 : Int64) : wpX_poke (fun r u' => wpY_poke (fun r' v' => r' = r ∧ i_Rel (k + 4) u' v') v v1 a1) u v1 a1 := by
  obtain ⟨st, ek, ln, lb, lk, y, ty, b, c, s, i, l, rfl, rfl, h⟩ := I
  have M := ag_mk (k := k + 4) (lb := lb) (lk := lk) h
  rcases h with ⟨rfl, rfl⟩ | ⟨rfl, h1, h2⟩ | ⟨rfl, h9, hT, h8, hC⟩
  · exact br_f (by decide) (ag_pk1 ag_E0 (by decide) ⟨rfl, M⟩)
  · exact br_f (by decide) (ag_pk1 (ag_E1 h1 h2) (by decide) ⟨rfl, M⟩)
  by_cases hx : v1 < 0
  · exact br_t rfl (br_t hx (ag_pk2 (ag_E2 hT) (ag_9ge h9).1 hx ⟨rfl, M⟩))
  by_cases hl : v1 < ln
  · obtain ⟨m, hm, rfl⟩ := ag_in8 hx hl h8
    have hin : vp_in (nI m) 8 := vp_in_nI hm (by decide)
    have hc : (nI m).toNatClampNeg = m := nI_clamp (by omega)
    have hE := ag_E2 (ln := ln) (lk := lk) (lb := lb) (b := b) (c := c) (s := s) (i := i) (l := l) hT
    refine ag_xp hx hl hin ?_
    rcases h9 with rfl | rfl | rfl | rfl | rfl | rfl | rfl | rfl | rfl
    · refine ag_ps0 hE hx hl hin ⟨rfl, ag_mk (k := k + 4) (Or.inr (Or.inr ⟨rfl, Or.inl rfl, hT, h8, ?_⟩))⟩
      rw [hc]
      exact ag_st m hC ⟨a1, pk_uLs, congrArg Int32.toInt64 pk_us⟩ (fun _ z => pk_uLn z) (fun _ z => pk_un z) (fun _ _ => rfl) (fun _ _ => rfl) (fun _ _ => rfl) (fun _ _ => rfl)
    · refine ag_ps1 hE hx hl hin ⟨rfl, ag_mk (k := k + 4) (Or.inr (Or.inr ⟨rfl, Or.inr (Or.inl rfl), hT, h8, ?_⟩))⟩
      rw [hc]
      exact ag_st m hC ⟨a1, pk_uLs, congrArg Int32.toInt64 pk_us⟩ (fun _ z => pk_uLn z) (fun _ z => pk_un z) (fun _ _ => rfl) (fun _ _ => rfl) (fun _ _ => rfl) (fun _ _ => rfl)
    · refine ag_ps2 hE hx hl hin ⟨rfl, ag_mk (k := k + 4) (Or.inr (Or.inr ⟨rfl, Or.inr (Or.inr (Or.inl rfl)), hT, h8, ?_⟩))⟩
      rw [hc]
      exact ag_st m hC ⟨a1, pk_uLs, congrArg Int32.toInt64 pk_us⟩ (fun _ z => pk_uLn z) (fun _ _ => rfl) (fun _ z => pk_un z) (fun _ _ => rfl) (fun _ _ => rfl) (fun _ _ => rfl)
    · refine ag_ps3 hE hx hl hin ⟨rfl, ag_mk (k := k + 4) (Or.inr (Or.inr ⟨rfl, Or.inr (Or.inr (Or.inr (Or.inl rfl))), hT, h8, ?_⟩))⟩
      rw [hc]
      exact ag_st m hC ⟨a1, pk_uLs, congrArg Int32.toInt64 pk_us⟩ (fun _ z => pk_uLn z) (fun _ _ => rfl) (fun _ _ => rfl) (fun _ z => pk_un z) (fun _ _ => rfl) (fun _ _ => rfl)
    · refine ag_ps4 hE hx hl hin ⟨rfl, ag_mk (k := k + 4) (Or.inr (Or.inr ⟨rfl, Or.inr (Or.inr (Or.inr (Or.inr (Or.inl rfl)))), hT, h8, ?_⟩))⟩
      rw [hc]
      exact ag_st m hC ⟨a1, pk_uLs, congrArg Int32.toInt64 pk_us⟩ (fun _ z => pk_uLn z) (fun _ _ => rfl) (fun _ _ => rfl) (fun _ _ => rfl) (fun _ z => pk_un z) (fun _ _ => rfl)
    · refine ag_ps5 hE hx hl hin ⟨rfl, ag_mk (k := k + 4) (Or.inr (Or.inr ⟨rfl, Or.inr (Or.inr (Or.inr (Or.inr (Or.inr (Or.inl rfl))))), hT, h8, ?_⟩))⟩
      rw [hc]
      exact ag_st m hC ⟨a1, pk_uLs, pk_uLs⟩ (fun _ z => pk_uLn z) (fun _ _ => rfl) (fun _ _ => rfl) (fun _ _ => rfl) (fun _ _ => rfl) (fun _ z => pk_uLn z)
    · refine ag_ps6 hE hx hl hin ⟨rfl, ag_mk (k := k + 4) (Or.inr (Or.inr ⟨rfl, Or.inr (Or.inr (Or.inr (Or.inr (Or.inr (Or.inr (Or.inl rfl)))))), hT, h8, ?_⟩))⟩
      rw [hc]
      exact ag_st m hC ⟨a1, pk_uLs, congrArg Int32.toInt64 pk_us⟩ (fun _ z => pk_uLn z) (fun _ _ => rfl) (fun _ _ => rfl) (fun _ _ => rfl) (fun _ z => pk_un z) (fun _ _ => rfl)
    · refine ag_ps7 hE hx hl hin ⟨rfl, ag_mk (k := k + 4) (Or.inr (Or.inr ⟨rfl, Or.inr (Or.inr (Or.inr (Or.inr (Or.inr (Or.inr (Or.inr (Or.inl rfl))))))), hT, h8, ?_⟩))⟩
      rw [hc]
      exact ag_st m hC ⟨a1, pk_uLs, pk_uLs⟩ (fun _ z => pk_uLn z) (fun _ _ => rfl) (fun _ _ => rfl) (fun _ _ => rfl) (fun _ _ => rfl) (fun _ z => pk_uLn z)
    · refine ag_ps8 hE hx hl hin ⟨rfl, ag_mk (k := k + 4) (Or.inr (Or.inr ⟨rfl, Or.inr (Or.inr (Or.inr (Or.inr (Or.inr (Or.inr (Or.inr (Or.inr (rfl)))))))), hT, h8, ?_⟩))⟩
      rw [hc]
      exact ag_st m hC ⟨a1, pk_uLs, pk_uLs⟩ (fun _ z => pk_uLn z) (fun _ _ => rfl) (fun _ _ => rfl) (fun _ _ => rfl) (fun _ _ => rfl) (fun _ z => pk_uLn z)
  · exact br_t rfl (br_f hx (br_f hl (ag_pk3 (ag_E2 hT) (ag_9ge h9).1 hx hl ⟨rfl, M⟩)))
end
section
/-! get -/
def ag_6 (k : Int32) : Prop := k = 0 ∨ k = 1 ∨ k = 2 ∨ k = 3 ∨ k = 4 ∨ k = 5
theorem ag_69 {k : Int32} (h : ag_6 k) : ag_9 k := by
  rcases h with h | h | h | h | h | h
  · exact Or.inl h
  · exact Or.inr (Or.inl h)
  · exact Or.inr (Or.inr (Or.inl h))
  · exact Or.inr (Or.inr (Or.inr (Or.inl h)))
  · exact Or.inr (Or.inr (Or.inr (Or.inr (Or.inl h))))
  · exact Or.inr (Or.inr (Or.inr (Or.inr (Or.inr (Or.inl h)))))
theorem ag_mk6 {k : Int32} (h0 : ¬ k < 0) (h8 : k ≤ 8) (n6 : ¬ k = 6) (n7 : ¬ k = 7) (n8 : ¬ k = 8) : ag_6 k := by
  obtain ⟨j, hj, rfl⟩ := nI_of2 (n := 8) (by decide) h0 h8
  match j, hj, n6, n7, n8 with
  | 0, _, _, _, _ => exact Or.inl rfl
  | 1, _, _, _, _ => exact Or.inr (Or.inl rfl)
  | 2, _, _, _, _ => exact Or.inr (Or.inr (Or.inl rfl))
  | 3, _, _, _, _ => exact Or.inr (Or.inr (Or.inr (Or.inl rfl)))
  | 4, _, _, _, _ => exact Or.inr (Or.inr (Or.inr (Or.inr (Or.inl rfl))))
  | 5, _, _, _, _ => exact Or.inr (Or.inr (Or.inr (Or.inr (Or.inr rfl))))
  | 6, _, n6, _, _ => exact absurd rfl n6
  | 7, _, _, n7, _ => exact absurd rfl n7
  | 8, _, _, _, n8 => exact absurd rfl n8
def ag_no (q : Int32) : Prop := ¬ q = 0 ∧ ¬ q = 17 ∧ ¬ q = 19 ∧ ¬ q = 20 ∧ ¬ q = 21 ∧ ¬ q = 34 ∧ ¬ q = 36 ∧ ¬ q = 37 ∧ ¬ q = 51 ∧ ¬ q = 52 ∧ ¬ q = 53 ∧ ¬ q = 68 ∧ ¬ q = 69 ∧ ¬ q = 85
theorem ag_not {e k : Int32} (he : ag_9 e) (hk : ag_6 k) (hn : ¬ ag_ok e k) : ag_no (e * 16 + k) := by
  unfold ag_ok at hn
  unfold ag_no
  rcases he with rfl | rfl | rfl | rfl | rfl | rfl | rfl | rfl | rfl <;> rcases hk with rfl | rfl | rfl | rfl | rfl | rfl <;> first | decide | exact absurd (by decide) hn
section
variable {post : Int32 → SX → Prop} {st ek ln : Int32} {lb : Int64} {lk : Int32} {y : Nat → Int64} {x k e : Int32} {z : Int64}
theorem ag_350 (h : post 0 (st, ek, ln, z &&& ag_m k, k, y)) : wX_get_350 post k z st ek ln lb lk y := by
  unfold wX_get_350
  exact ag_mask (nm_e h)
theorem ag_295 (h : post 0 (st, ek, ln, ag_x e z &&& ag_m k, k, y)) : wX_get_295 post k e z 1 st ek ln lb lk y := by
  unfold ag_x at h
  refine br_f (by decide) (br_c (fun h1 => ?_) (fun n1 => br_c (fun h3 => ?_) (fun n3 => br_c (fun h4 => ?_) (fun n4 => ?_))))
  · rw [if_pos h1] at h; exact ag_350 h
  · rw [if_neg n1, if_pos h3] at h; exact ag_350 h
  · rw [if_neg n1, if_neg n3, if_pos h4] at h; exact ag_350 h
  · rw [if_neg n1, if_neg n3, if_neg n4] at h; exact ag_350 h
theorem ag_295n (h : post 2 (st, ek, ln, lb, lk, y)) : wX_get_295 post k e z 0 st ek ln lb lk y := br_t rfl h
theorem ag_x8 (hx : ¬ x < 0) (hl : x < ln) (hin : vp_in x 8) (h : post 0 (st, ek, ln, y x.toNatClampNeg, (if ek = 8 then 8 else 16 + ek), y)) : wX_get_70 post 8 x st ek ln lb lk y := by
  refine br_f hx (br_t hl ⟨hin, nm_e (br_t rfl (br_c (fun h8 => ?_) (fun n8 => nm_e ?_)))⟩)
  · rw [if_pos h8] at h; exact h
  · rw [if_neg n8] at h; exact h
theorem ag_xk (hk : ag_ok ek k) (hx : ¬ x < 0) (hl : x < ln) (hin : vp_in x 8) (h : post 0 (st, ek, ln, ag_x ek (y x.toNatClampNeg) &&& ag_m k, k, y)) : wX_get_70 post k x st ek ln lb lk y := by
  rcases hk with ⟨rfl, rfl⟩ | ⟨rfl, rfl⟩ | ⟨rfl, rfl⟩ | ⟨rfl, rfl⟩ | ⟨rfl, rfl⟩ | ⟨rfl, rfl⟩ | ⟨rfl, rfl⟩ | ⟨rfl, rfl⟩ | ⟨rfl, rfl⟩ | ⟨rfl, rfl⟩ | ⟨rfl, rfl⟩ | ⟨rfl, rfl⟩ | ⟨rfl, rfl⟩ | ⟨rfl, rfl⟩
  · exact br_f hx (br_t hl ⟨hin, nm_e (br_f (by decide) (br_t rfl (br_t rfl (ag_295 h))))⟩)
  · exact br_f hx (br_t hl ⟨hin, nm_e (br_f (by decide) (br_f (by decide) (br_t rfl (br_t rfl (ag_295 h)))))⟩)
  · exact br_f hx (br_t hl ⟨hin, nm_e (br_f (by decide) (br_f (by decide) (br_t rfl (br_f (by decide) (br_t rfl (ag_295 h))))))⟩)
  · exact br_f hx (br_t hl ⟨hin, nm_e (br_f (by decide) (br_f (by decide) (br_t rfl (br_f (by decide) (br_f (by decide) (br_t rfl (ag_295 h)))))))⟩)
  · exact br_f hx (br_t hl ⟨hin, nm_e (br_f (by decide) (br_f (by decide) (br_t rfl (br_f (by decide) (br_f (by decide) (br_f (by decide) (br_t rfl (ag_295 h))))))))⟩)
  · exact br_f hx (br_t hl ⟨hin, nm_e (br_f (by decide) (br_f (by decide) (br_f (by decide) (br_t rfl (br_t rfl (ag_295 h))))))⟩)
  · exact br_f hx (br_t hl ⟨hin, nm_e (br_f (by decide) (br_f (by decide) (br_f (by decide) (br_t rfl (br_f (by decide) (br_t rfl (ag_295 h)))))))⟩)
  · exact br_f hx (br_t hl ⟨hin, nm_e (br_f (by decide) (br_f (by decide) (br_f (by decide) (br_t rfl (br_f (by decide) (br_f (by decide) (br_t rfl (ag_295 h))))))))⟩)
  · exact br_f hx (br_t hl ⟨hin, nm_e (br_f (by decide) (br_f (by decide) (br_f (by decide) (br_f (by decide) (br_t rfl (br_t rfl (ag_295 h)))))))⟩)
  · exact br_f hx (br_t hl ⟨hin, nm_e (br_f (by decide) (br_f (by decide) (br_f (by decide) (br_f (by decide) (br_t rfl (br_f (by decide) (br_t rfl (ag_295 h))))))))⟩)
  · exact br_f hx (br_t hl ⟨hin, nm_e (br_f (by decide) (br_f (by decide) (br_f (by decide) (br_f (by decide) (br_t rfl (br_f (by decide) (br_f (by decide) (br_t rfl (ag_295 h)))))))))⟩)
  · exact br_f hx (br_t hl ⟨hin, nm_e (br_f (by decide) (br_f (by decide) (br_f (by decide) (br_f (by decide) (br_f (by decide) (br_t rfl (br_t rfl (ag_295 h))))))))⟩)
  · exact br_f hx (br_t hl ⟨hin, nm_e (br_f (by decide) (br_f (by decide) (br_f (by decide) (br_f (by decide) (br_f (by decide) (br_t rfl (br_f (by decide) (br_t rfl (ag_295 h)))))))))⟩)
  · exact br_f hx (br_t hl ⟨hin, nm_e (br_f (by decide) (br_f (by decide) (br_f (by decide) (br_f (by decide) (br_f (by decide) (br_f (by decide) (br_t rfl (br_t rfl (ag_295 h)))))))))⟩)
theorem ag_xn (hn : ¬ ag_ok ek k) (h8 : ¬ k = 8) (hx : ¬ x < 0) (hl : x < ln) (hin : vp_in x 8) (h : post 2 (st, ek, ln, lb, lk, y)) : wX_get_70 post k x st ek ln lb lk y := by
  exact br_f hx (br_t hl ⟨hin, nm_e (br_f h8 (br_c (fun he => br_f (fun hk => hn (Or.inl ⟨he, hk⟩)) (ag_295n h)) (fun _ => br_c (fun he => br_f (fun hk => hn (Or.inr (Or.inl ⟨he, hk⟩))) (br_f (fun hk => hn (Or.inr (Or.inr (Or.inl ⟨he, hk⟩)))) (br_f (fun hk => hn (Or.inr (Or.inr (Or.inr (Or.inl ⟨he, hk⟩))))) (br_f (fun hk => hn (Or.inr (Or.inr (Or.inr (Or.inr (Or.inl ⟨he, hk⟩)))))) (ag_295n h))))) (fun _ => br_c (fun he => br_f (fun hk => hn (Or.inr (Or.inr (Or.inr (Or.inr (Or.inr (Or.inl ⟨he, hk⟩))))))) (br_f (fun hk => hn (Or.inr (Or.inr (Or.inr (Or.inr (Or.inr (Or.inr (Or.inl ⟨he, hk⟩)))))))) (br_f (fun hk => hn (Or.inr (Or.inr (Or.inr (Or.inr (Or.inr (Or.inr (Or.inr (Or.inl ⟨he, hk⟩))))))))) (ag_295n h)))) (fun _ => br_c (fun he => br_f (fun hk => hn (Or.inr (Or.inr (Or.inr (Or.inr (Or.inr (Or.inr (Or.inr (Or.inr (Or.inl ⟨he, hk⟩)))))))))) (br_f (fun hk => hn (Or.inr (Or.inr (Or.inr (Or.inr (Or.inr (Or.inr (Or.inr (Or.inr (Or.inr (Or.inl ⟨he, hk⟩))))))))))) (br_f (fun hk => hn (Or.inr (Or.inr (Or.inr (Or.inr (Or.inr (Or.inr (Or.inr (Or.inr (Or.inr (Or.inr (Or.inl ⟨he, hk⟩)))))))))))) (ag_295n h)))) (fun _ => br_c (fun he => br_f (fun hk => hn (Or.inr (Or.inr (Or.inr (Or.inr (Or.inr (Or.inr (Or.inr (Or.inr (Or.inr (Or.inr (Or.inr (Or.inl ⟨he, hk⟩))))))))))))) (br_f (fun hk => hn (Or.inr (Or.inr (Or.inr (Or.inr (Or.inr (Or.inr (Or.inr (Or.inr (Or.inr (Or.inr (Or.inr (Or.inr (Or.inl ⟨he, hk⟩)))))))))))))) (ag_295n h))) (fun _ => br_c (fun he => br_f (fun hk => hn (Or.inr (Or.inr (Or.inr (Or.inr (Or.inr (Or.inr (Or.inr (Or.inr (Or.inr (Or.inr (Or.inr (Or.inr (Or.inr (⟨he, hk⟩))))))))))))))) (ag_295n h)) (fun _ => ag_295n h))))))))⟩)
end
section
variable {post : Int32 → SY → Prop} {ty ln lk : Int32} {lb : Int64} {b c s i : Nat → Int32} {l : Nat → Int64} {e x k z : Int32}
theorem ag_252 (he : ag_9 e) (hk : ag_9 k) (hin : vp_in x 8) (h : post 0 (ty, ln, k, ag_r (ag_v e (b x.toNatClampNeg) (c x.toNatClampNeg) (s x.toNatClampNeg) (i x.toNatClampNeg) (l x.toNatClampNeg)) k, b, c, s, i, l)) : wY_get_252 post k x e ty ln lk lb b c s i l := by
  unfold wY_get_252
  exact ag_value he hin (ag_raw hk h)
theorem ag_104 (he : ag_9 e) (hin : vp_in x 8) (h : post 0 (ty, ln, z, ag_r (ag_v e (b x.toNatClampNeg) (c x.toNatClampNeg) (s x.toNatClampNeg) (i x.toNatClampNeg) (l x.toNatClampNeg)) e, b, c, s, i, l)) : wY_get_104 post x e z ty ln lk lb b c s i l := by
  unfold wY_get_104
  exact ag_value he hin (ag_raw he h)
theorem ag_y8 (he : ag_9 e) (hx : ¬ x < 0) (hl : x < ln) (hin : vp_in x 8) (h : post 0 (ty, ln, (if e = 8 then 8 else 16 + e), ag_r (ag_v e (b x.toNatClampNeg) (c x.toNatClampNeg) (s x.toNatClampNeg) (i x.toNatClampNeg) (l x.toNatClampNeg)) e, b, c, s, i, l)) : wY_get_68 post 8 x e ty ln lk lb b c s i l := by
  refine br_f hx (br_t hl (br_t rfl (br_c (fun h8 => ?_) (fun n8 => ?_))))
  · rw [if_pos h8] at h; exact ag_104 he hin h
  · rw [if_neg n8] at h; exact ag_104 he hin h
theorem ag_yk (he : ag_9 e) (hk9 : ag_9 k) (hk : ag_ok e k) (hx : ¬ x < 0) (hl : x < ln) (hin : vp_in x 8) (h : post 0 (ty, ln, k, ag_r (ag_v e (b x.toNatClampNeg) (c x.toNatClampNeg) (s x.toNatClampNeg) (i x.toNatClampNeg) (l x.toNatClampNeg)) k, b, c, s, i, l)) : wY_get_68 post k x e ty ln lk lb b c s i l := by
  have J : wY_get_252 post k x e ty ln lk lb b c s i l := ag_252 he hk9 hin h
  rcases hk with ⟨rfl, rfl⟩ | ⟨rfl, rfl⟩ | ⟨rfl, rfl⟩ | ⟨rfl, rfl⟩ | ⟨rfl, rfl⟩ | ⟨rfl, rfl⟩ | ⟨rfl, rfl⟩ | ⟨rfl, rfl⟩ | ⟨rfl, rfl⟩ | ⟨rfl, rfl⟩ | ⟨rfl, rfl⟩ | ⟨rfl, rfl⟩ | ⟨rfl, rfl⟩ | ⟨rfl, rfl⟩
  · exact br_f hx (br_t hl (br_f (by decide) (nm_r (e' := 0) (by decide) (br_t rfl J))))
  · exact br_f hx (br_t hl (br_f (by decide) (nm_r (e' := 17) (by decide) (br_f (by decide) (br_t rfl J)))))
  · exact br_f hx (br_t hl (br_f (by decide) (nm_r (e' := 19) (by decide) (br_f (by decide) (br_f (by decide) (br_t rfl J))))))
  · exact br_f hx (br_t hl (br_f (by decide) (nm_r (e' := 20) (by decide) (br_f (by decide) (br_f (by decide) (br_f (by decide) (br_t rfl J)))))))
  · exact br_f hx (br_t hl (br_f (by decide) (nm_r (e' := 21) (by decide) (br_f (by decide) (br_f (by decide) (br_f (by decide) (br_f (by decide) (br_t rfl J))))))))
  · exact br_f hx (br_t hl (br_f (by decide) (nm_r (e' := 34) (by decide) (br_f (by decide) (br_f (by decide) (br_f (by decide) (br_f (by decide) (br_f (by decide) (br_t rfl J)))))))))
  · exact br_f hx (br_t hl (br_f (by decide) (nm_r (e' := 36) (by decide) (br_f (by decide) (br_f (by decide) (br_f (by decide) (br_f (by decide) (br_f (by decide) (br_f (by decide) (br_t rfl J))))))))))
  · exact br_f hx (br_t hl (br_f (by decide) (nm_r (e' := 37) (by decide) (br_f (by decide) (br_f (by decide) (br_f (by decide) (br_f (by decide) (br_f (by decide) (br_f (by decide) (br_f (by decide) (br_t rfl J)))))))))))
  · exact br_f hx (br_t hl (br_f (by decide) (nm_r (e' := 51) (by decide) (br_f (by decide) (br_f (by decide) (br_f (by decide) (br_f (by decide) (br_f (by decide) (br_f (by decide) (br_f (by decide) (br_f (by decide) (br_t rfl J))))))))))))
  · exact br_f hx (br_t hl (br_f (by decide) (nm_r (e' := 52) (by decide) (br_f (by decide) (br_f (by decide) (br_f (by decide) (br_f (by decide) (br_f (by decide) (br_f (by decide) (br_f (by decide) (br_f (by decide) (br_f (by decide) (br_t rfl J)))))))))))))
  · exact br_f hx (br_t hl (br_f (by decide) (nm_r (e' := 53) (by decide) (br_f (by decide) (br_f (by decide) (br_f (by decide) (br_f (by decide) (br_f (by decide) (br_f (by decide) (br_f (by decide) (br_f (by decide) (br_f (by decide) (br_f (by decide) (br_t rfl J))))))))))))))
  · exact br_f hx (br_t hl (br_f (by decide) (nm_r (e' := 68) (by decide) (br_f (by decide) (br_f (by decide) (br_f (by decide) (br_f (by decide) (br_f (by decide) (br_f (by decide) (br_f (by decide) (br_f (by decide) (br_f (by decide) (br_f (by decide) (br_f (by decide) (br_t rfl J)))))))))))))))
  · exact br_f hx (br_t hl (br_f (by decide) (nm_r (e' := 69) (by decide) (br_f (by decide) (br_f (by decide) (br_f (by decide) (br_f (by decide) (br_f (by decide) (br_f (by decide) (br_f (by decide) (br_f (by decide) (br_f (by decide) (br_f (by decide) (br_f (by decide) (br_f (by decide) (br_t rfl J))))))))))))))))
  · exact br_f hx (br_t hl (br_f (by decide) (nm_r (e' := 85) (by decide) (br_f (by decide) (br_f (by decide) (br_f (by decide) (br_f (by decide) (br_f (by decide) (br_f (by decide) (br_f (by decide) (br_f (by decide) (br_f (by decide) (br_f (by decide) (br_f (by decide) (br_f (by decide) (br_f (by decide) (br_t rfl J)))))))))))))))))
theorem ag_yn (hn : ag_no (e * 16 + k)) (h8 : ¬ k = 8) (hx : ¬ x < 0) (hl : x < ln) (h : post 2 (ty, ln, lk, lb, b, c, s, i, l)) : wY_get_68 post k x e ty ln lk lb b c s i l := by
  obtain ⟨n0, n17, n19, n20, n21, n34, n36, n37, n51, n52, n53, n68, n69, n85⟩ := hn
  exact br_f hx (br_t hl (br_f h8 (nm_e (br_f n0 (br_f n17 (br_f n19 (br_f n20 (br_f n21 (br_f n34 (br_f n36 (br_f n37 (br_f n51 (br_f n52 (br_f n53 (br_f n68 (br_f n69 (br_f n85 h)))))))))))))))))
theorem ag_yg (hE : ag_E (ty, ln, -1, 0, b, c, s, i, l) e) (h9 : ag_9 e) (k0 : ¬ k < 0) (n8 : ¬ 8 < k) (k6 : ¬ k = 6) (k7 : ¬ k = 7) (he : k = 8 ∨ ¬ e = 8) (h : wY_get_68 post k x e ty ln (-1) 0 b c s i l) : wpY_get post (ty, ln, lk, lb, b, c, s, i, l) k x := by
  refine br_f k0 (br_f n8 (br_f k6 (br_f k7 (hE _ (br_f (ag_9ge h9).2.1 (br_f (ag_9ge h9).2.2 (br_c (fun _ => h) (fun m8 => br_f ?_ h))))))))
  exact he.resolve_left m8
end
theorem i_vc_get {k : Nat} {u : SX} {v : SY} (I : i_Rel k u v) (hk : k + 4 ≤ 2048) (v1 : Int32) (v2 : Int32) : wpX_get (fun r u' => wpY_get (fun r' v' => r' = r ∧ i_Rel (k + 4) u' v') v v1 v2) u v1 v2 := by
  obtain ⟨st, ek, ln, lb, lk, y, ty, b, c, s, i, l, rfl, rfl, h⟩ := I
  have M := ag_mk (k := k + 4) (lb := lb) (lk := lk) h
  have M0 := ag_mk (k := k + 4) (lb := 0) (lk := -1) h
  by_cases k0 : v1 < 0
  · exact br_t k0 (br_t k0 ⟨rfl, M⟩)
  by_cases k6 : v1 = 6
  · exact br_f k0 (br_t k6 (br_f k0 (br_f (by rw [k6]; decide) (br_t k6 ⟨rfl, M⟩))))
  by_cases k7 : v1 = 7
  · exact br_f k0 (br_f k6 (br_t k7 (br_f k0 (br_f (by rw [k7]; decide) (br_f k6 (br_t k7 ⟨rfl, M⟩))))))
  by_cases k8 : v1 ≤ 8
  · have n8 : ¬ 8 < v1 := Int32.not_lt.mpr k8
    refine br_f k0 (br_f k6 (br_f k7 (br_t k8 ?_)))
    rcases h with ⟨rfl, rfl⟩ | ⟨rfl, h1, h2⟩ | ⟨rfl, h9, hT, h8, hC⟩
    · exact br_t rfl (br_f k0 (br_f n8 (br_f k6 (br_f k7 (ag_E0 _ (br_t rfl ⟨rfl, M0⟩))))))
    · exact br_f (by decide) (br_f (by decide) (br_f k0 (br_f n8 (br_f k6 (br_f k7 (ag_E1 h1 h2 _ (br_f (by decide) (br_t rfl ⟨rfl, M0⟩))))))))
    refine br_f (by decide) (br_t rfl ?_)
    have hE := ag_E2 (ln := ln) (lk := -1) (lb := 0) (b := b) (c := c) (s := s) (i := i) (l := l) hT
    have hR : ∀ (p : Int64) (q : Int32), i_Rel (k + 4) (2, ek, ln, p, q, y) (ty, ln, q, p, b, c, s, i, l) := fun p q => ag_mk (k := k + 4) (Or.inr (Or.inr ⟨rfl, h9, hT, h8, hC⟩))
    by_cases m8 : v1 = 8
    · subst m8
      refine br_t rfl ?_
      by_cases hx : v2 < 0
      · exact br_t hx (ag_yg hE h9 k0 n8 k6 k7 (Or.inl rfl) (br_t hx ⟨rfl, M0⟩))
      by_cases hl : v2 < ln
      · obtain ⟨m, hm, rfl⟩ := ag_in8 hx hl h8
        have hin : vp_in (nI m) 8 := vp_in_nI hm (by decide)
        have hc : (nI m).toNatClampNeg = m := nI_clamp (by omega)
        have e1 := ag_C8 h9 (hC m hm)
        refine ag_x8 hx hl hin (ag_yg hE h9 k0 n8 k6 k7 (Or.inl rfl) (ag_y8 h9 hx hl hin ⟨rfl, ?_⟩))
        rw [hc, ← e1]
        exact hR _ _
      · exact br_f hx (br_f hl (ag_yg hE h9 k0 n8 k6 k7 (Or.inl rfl) (br_f hx (br_f hl ⟨rfl, M0⟩))))
    by_cases e8 : ek = 8
    · exact br_f m8 (br_t e8 (br_f k0 (br_f n8 (br_f k6 (br_f k7 (hE _ (br_f (ag_9ge h9).2.1 (br_f (ag_9ge h9).2.2 (br_f m8 (br_t e8 ⟨rfl, M0⟩))))))))))
    refine br_f m8 (br_f e8 ?_)
    by_cases hx : v2 < 0
    · exact br_t hx (ag_yg hE h9 k0 n8 k6 k7 (Or.inr e8) (br_t hx ⟨rfl, M0⟩))
    by_cases hl : v2 < ln
    · obtain ⟨m, hm, rfl⟩ := ag_in8 hx hl h8
      have hin : vp_in (nI m) 8 := vp_in_nI hm (by decide)
      have hc : (nI m).toNatClampNeg = m := nI_clamp (by omega)
      have h6 := ag_mk6 k0 k8 k6 k7 m8
      by_cases ho : ag_ok ek v1
      · have e1 := ag_CK ho (hC m hm)
        refine ag_xk ho hx hl hin (ag_yg hE h9 k0 n8 k6 k7 (Or.inr e8) (ag_yk h9 (ag_69 h6) ho hx hl hin ⟨rfl, ?_⟩))
        rw [hc, ← e1]
        exact hR _ _
      · exact ag_xn ho m8 hx hl hin (ag_yg hE h9 k0 n8 k6 k7 (Or.inr e8) (ag_yn (ag_not h9 h6 ho) m8 hx hl ⟨rfl, M0⟩))
    · exact br_f hx (br_f hl (ag_yg hE h9 k0 n8 k6 k7 (Or.inr e8) (br_f hx (br_f hl ⟨rfl, M0⟩))))
  · exact br_f k0 (br_f k6 (br_f k7 (br_f k8 (br_f k0 (br_t (Int32.not_le.mp k8) ⟨rfl, M⟩)))))
end

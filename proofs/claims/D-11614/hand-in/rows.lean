section
/-! ===== packed rows: digit k of width w ===== -/
def bd_g (w A k : Nat) : Nat := Nat.mod (Nat.shiftRight A (Nat.mul w k)) (Nat.pow 2 w)
def bd_s (w A k v : Nat) : Nat := Nat.xor A (Nat.shiftLeft (Nat.xor (bd_g w A k) v) (Nat.mul w k))
theorem bd_g_def (w A k : Nat) : bd_g w A k = (A >>> (w * k)) % 2 ^ w := rfl
theorem bd_s_def (w A k v : Nat) : bd_s w A k v = A ^^^ ((bd_g w A k ^^^ v) <<< (w * k)) := rfl
theorem bd_g_lt (w A k : Nat) : bd_g w A k < 2 ^ w := Nat.mod_lt _ (Nat.two_pow_pos w)
theorem bd_g_tb (w A k i : Nat) : (bd_g w A k).testBit i = (decide (i < w) && A.testBit (w * k + i)) := by
  rw [bd_g_def, Nat.testBit_mod_two_pow, Nat.testBit_shiftRight]
theorem bd_s_tb (w A k v i : Nat) : (bd_s w A k v).testBit i = (A.testBit i ^^ (decide (w * k ≤ i) && ((bd_g w A k).testBit (i - w * k) ^^ v.testBit (i - w * k)))) := by
  rw [bd_s_def, Nat.testBit_xor, Nat.testBit_shiftLeft, Nat.testBit_xor]
theorem bd_tb_hi {v w i : Nat} (hv : v < 2 ^ w) (h : w ≤ i) : v.testBit i = false :=
  Nat.testBit_lt_two_pow (Nat.lt_of_lt_of_le hv (Nat.pow_le_pow_right (by decide) h))
theorem bd_g_same {w A k v : Nat} (hv : v < 2 ^ w) : bd_g w (bd_s w A k v) k = v := by
  apply Nat.eq_of_testBit_eq
  intro i
  rw [bd_g_tb, bd_s_tb, bd_g_tb, Nat.add_sub_cancel_left]
  by_cases h : i < w
  · rw [decide_eq_true h, decide_eq_true (Nat.le_add_right (w * k) i)]
    cases A.testBit (w * k + i) <;> cases v.testBit i <;> rfl
  · rw [decide_eq_false h, bd_tb_hi hv (Nat.le_of_not_lt h)]
    rfl
theorem bd_g_ne {w A k v j : Nat} (hv : v < 2 ^ w) (h : j ≠ k) : bd_g w (bd_s w A k v) j = bd_g w A j := by
  apply Nat.eq_of_testBit_eq
  intro i
  rw [bd_g_tb, bd_g_tb, bd_s_tb]
  by_cases hi : i < w
  · have e : (decide (w * k ≤ w * j + i) && ((bd_g w A k).testBit (w * j + i - w * k) ^^ v.testBit (w * j + i - w * k))) = false := by
      by_cases hk : w * k ≤ w * j + i
      · have hw : w ≤ w * j + i - w * k := by
          rcases Nat.lt_or_gt_of_ne h with g | g
          · have t := Nat.mul_le_mul_left w (show j + 1 ≤ k from g)
            rw [Nat.mul_add, Nat.mul_one] at t
            omega
          · have t := Nat.mul_le_mul_left w (show k + 1 ≤ j from g)
            rw [Nat.mul_add, Nat.mul_one] at t
            omega
        rw [bd_tb_hi (bd_g_lt w A k) hw, bd_tb_hi hv hw]
        exact Bool.and_false _
      · rw [decide_eq_false hk]
        rfl
    rw [e, Bool.xor_false]
  · rw [decide_eq_false hi]
    rfl
theorem bd_g_0 (w k : Nat) : bd_g w 0 k = 0 := by
  rw [bd_g_def, Nat.zero_shiftRight, Nat.zero_mod]
theorem bd_01 (S k : Nat) : bd_g 1 S k = 0 ∨ bd_g 1 S k = 1 := by
  have := bd_g_lt 1 S k
  omega
/-! ===== an array of the state holds a packed row ===== -/
def bd_v (d : Nat) : Int32 := nI d - 1
theorem bd_v0 : bd_v 0 = -1 := by decide
theorem bd_vs (m : Nat) : bd_v (m + 1) = nI m := nI_pred m
def bd_R (N w b : Nat) (f : Nat → Int32) (a : Nat → Int32) (A : Nat) : Prop := ∀ k, k < N → bd_g w A k < b ∧ a k = f (bd_g w A k)
theorem bd_R_u {N w b : Nat} {f a : Nat → Int32} {A k v : Nat} {x : Int32} (h : bd_R N w b f a A) (hv : v < b) (hb : b ≤ 2 ^ w) (hx : x = f v) : bd_R N w b f (upd a k x) (bd_s w A k v) := by
  intro j hj
  by_cases e : j = k
  · rw [e, pk_us, bd_g_same (Nat.lt_of_lt_of_le hv hb)]
    exact ⟨hv, hx⟩
  · rw [pk_un e, bd_g_ne (Nat.lt_of_lt_of_le hv hb) e]
    exact h j hj
theorem bd_R_p {N w b : Nat} {f a : Nat → Int32} {A v : Nat} {x : Int32} (h : bd_R N w b f a A) (hv : v < b) (hb : b ≤ 2 ^ w) (hx : x = f v) : bd_R (N + 1) w b f (upd a N x) (bd_s w A N v) := by
  intro j hj
  by_cases e : j = N
  · rw [e, pk_us, bd_g_same (Nat.lt_of_lt_of_le hv hb)]
    exact ⟨hv, hx⟩
  · rw [pk_un e, bd_g_ne (Nat.lt_of_lt_of_le hv hb) e]
    exact h j (by omega)
theorem bd_R_0 {N w b : Nat} {f a : Nat → Int32} {x : Int32} (h : ∀ k, k < N → a k = x) (hb : 0 < b) (hx : x = f 0) : bd_R N w b f a 0 := by
  intro k hk
  rw [bd_g_0]
  exact ⟨hb, (h k hk).trans hx⟩
theorem bd_Rn {N w b : Nat} {a : Nat → Int32} {A k : Nat} (h : bd_R N w b nI a A) (hk : k < N) (hN : k < 2 ^ 31) : bd_g w A k < b ∧ a (nI k).toNatClampNeg = nI (bd_g w A k) := by
  rw [nI_clamp hN]
  exact h k hk
theorem bd_Rs {a : Nat → Int32} {A k m : Nat} (h : bd_R 10 4 11 bd_v a A) (hk : k < 10) (e : bd_g 4 A k = m + 1) : m < 10 ∧ a (nI k).toNatClampNeg = nI m := by
  obtain ⟨h1, h2⟩ := h k hk
  rw [nI_clamp (by omega)]
  rw [e] at h1 h2
  rw [bd_vs] at h2
  exact ⟨by omega, h2⟩
theorem bd_Rz {a : Nat → Int32} {A k : Nat} (h : bd_R 10 4 11 bd_v a A) (hk : k < 10) (e : bd_g 4 A k = 0) : a (nI k).toNatClampNeg = -1 := by
  obtain ⟨h1, h2⟩ := h k hk
  rw [nI_clamp (by omega), h2, e, bd_v0]
theorem bd_b0 {a : Nat → Int32} {A k : Nat} (h : bd_R 10 1 2 nI a A) (hk : k < 10) (e : bd_g 1 A k = 0) : a (nI k).toNatClampNeg = 0 := by
  rw [(bd_Rn h hk (by omega)).2, e, nI_0]
theorem bd_b1 {a : Nat → Int32} {A k m : Nat} (h : bd_R 10 1 2 nI a A) (hk : k < 10) (e : bd_g 1 A k = m + 1) : ¬ a (nI k).toNatClampNeg = 0 := by
  have h1 := bd_Rn h hk (by omega)
  rw [h1.2]
  exact nI_ne0 (by omega) (by omega)
theorem bd_uc {a : Nat → Int32} {k : Nat} {x : Int32} (hk : k < 10) : upd a (nI k).toNatClampNeg x = upd a k x := by
  rw [nI_clamp (by omega)]
theorem bd_ucE {a : Nat → Int32} {k : Nat} {x y : Int32} (hk : k < 10) (e : y = nI k) : upd a y.toNatClampNeg x = upd a k x := by
  rw [e, nI_clamp (by omega)]
/-- filling an array from below -/
theorem bd_fill {a : Nat → Int32} {f : Nat → Int32} {i : Nat} {x : Int32} (h : ∀ k, k < i → a k = f k) (hx : x = f i) : ∀ k, k < i + 1 → upd a i x k = f k := by
  intro j hj
  by_cases e : j = i
  · rw [e, pk_us, hx]
  · rw [pk_un e]
    exact h j (by omega)
/-! ===== bits ===== -/
theorem bd_shu : ∀ j, j < 32 → (((nI j).toUInt32 &&& Int32.toUInt32 31).toBitVec % 32).toNat = j := by decide +kernel
theorem bd_bitI {S j : Nat} (hS : S < 2 ^ 32) (hj : j < 32) : (((nI S).toUInt32 >>> ((nI j).toUInt32 &&& Int32.toUInt32 31)).toInt32 &&& 1) = nI (bd_g 1 S j) := by
  have hd : S / 2 ^ j < 2 ^ 32 := Nat.lt_of_le_of_lt (Nat.div_le_self _ _) hS
  rw [pk_ushrN hS (nI j) j (bd_shu j hj), pk_andN hd 1 (by decide), bd_g_def, Nat.one_mul, Nat.shiftRight_eq_div_pow]
theorem bd_bit0 {S j : Nat} (hS : S < 2 ^ 32) (hj : j < 32) (e : bd_g 1 S j = 0) : (((nI S).toUInt32 >>> ((nI j).toUInt32 &&& Int32.toUInt32 31)).toInt32 &&& 1) = 0 := by
  rw [bd_bitI hS hj, e, nI_0]
theorem bd_bit1 {S j m : Nat} (hS : S < 2 ^ 32) (hj : j < 32) (e : bd_g 1 S j = m + 1) : ¬ (((nI S).toUInt32 >>> ((nI j).toUInt32 &&& Int32.toUInt32 31)).toInt32 &&& 1) = 0 := by
  have := bd_g_lt 1 S j
  rw [bd_bitI hS hj]
  exact nI_ne0 (by omega) (by omega)
theorem bd_or (a b : Nat) : nI a ||| nI b = nI (a ||| b) := by
  apply Int32.toBitVec_inj.1
  show BitVec.ofNat 32 a ||| BitVec.ofNat 32 b = BitVec.ofNat 32 (a ||| b)
  apply BitVec.eq_of_getLsbD_eq
  intro i hi
  simp [hi]
theorem bd_and (a b : Nat) : nI a &&& nI b = nI (a &&& b) := by
  apply Int32.toBitVec_inj.1
  show BitVec.ofNat 32 a &&& BitVec.ofNat 32 b = BitVec.ofNat 32 (a &&& b)
  apply BitVec.eq_of_getLsbD_eq
  intro i hi
  simp [hi]
/-- a without b -/
def bd_wo (a b : Nat) : Nat := Nat.xor a (Nat.land a b)
theorem bd_m1 : ∀ i, i < 32 → (-1 : Int32).toBitVec.getLsbD i = true := by decide +kernel
theorem bd_woI (a b : Nat) : nI a &&& (nI b ^^^ (-1)) = nI (bd_wo a b) := by
  apply Int32.toBitVec_inj.1
  apply BitVec.eq_of_getLsbD_eq
  intro i hi
  rw [Int32.toBitVec_and, Int32.toBitVec_xor, BitVec.getLsbD_and, BitVec.getLsbD_xor, bd_m1 i hi]
  show ((BitVec.ofNat 32 a).getLsbD i && ((BitVec.ofNat 32 b).getLsbD i ^^ true)) = (BitVec.ofNat 32 (a ^^^ (a &&& b))).getLsbD i
  rw [BitVec.getLsbD_ofNat, BitVec.getLsbD_ofNat, BitVec.getLsbD_ofNat, Nat.testBit_xor, Nat.testBit_and, decide_eq_true hi]
  cases a.testBit i <;> cases b.testBit i <;> rfl
theorem bd_shl1 : ∀ j, j < 10 → (1 : Int32) <<< (nI j &&& 31) = nI (Nat.shiftLeft 1 j) := by decide +kernel
theorem bd_tbN (A i : Nat) : bd_g 1 A i = (A.testBit i).toNat := by
  rw [Nat.toNat_testBit, bd_g_def, Nat.one_mul, Nat.shiftRight_eq_div_pow, Nat.pow_one]
theorem bd_sl : ∀ n, n < 32 → ((nI n &&& 31).toBitVec.smod 32).toNat = n := by decide +kernel
theorem bd_one : ∀ j, j < 32 → (1 : Int32).toBitVec.getLsbD j = decide (j = 0) := by decide +kernel
/-- bit i of any int, by its low ten bits -/
theorem bd_sset (x : Int32) {i : Nat} (hi : i < 10) : (x >>> (nI i &&& 31)) &&& 1 = nI (bd_g 1 (x.toBitVec.toNat % 2 ^ 10) i) := by
  have e : bd_g 1 (x.toBitVec.toNat % 2 ^ 10) i = (x.toBitVec.getLsbD i).toNat := by
    rw [bd_tbN, Nat.testBit_mod_two_pow, decide_eq_true hi, Bool.true_and]
    rfl
  rw [e]
  apply Int32.toBitVec_inj.1
  apply BitVec.eq_of_getLsbD_eq
  intro j hj
  rw [Int32.toBitVec_and, BitVec.getLsbD_and, Int32.toBitVec_shiftRight, bd_one j hj]
  show ((x.toBitVec.sshiftRight ((nI i &&& 31).toBitVec.smod 32).toNat).getLsbD j && decide (j = 0)) = _
  rw [bd_sl i (by omega), BitVec.getLsbD_sshiftRight]
  by_cases h0 : j = 0
  · subst h0
    have h1 : i + 0 < 32 := by omega
    simp only [h1, if_true]
    rw [Nat.add_zero]
    cases x.toBitVec.getLsbD i <;> rfl
  · rw [decide_eq_false h0, Bool.and_false]
    cases x.toBitVec.getLsbD i
    · show false = (0 : Int32).toBitVec.getLsbD j
      exact BitVec.getLsbD_zero.symm
    · show false = (1 : Int32).toBitVec.getLsbD j
      rw [bd_one j hj, decide_eq_false h0]
theorem bd_s1023 (x : Int32) : x &&& 1023 = nI (x.toBitVec.toNat % 2 ^ 10) := pk_and x 10 (by decide)
end
section
/-! ===== the pure picture: the class over packed rows ===== -/
/-- a search: queueEnd, outer, reachedFrom, base, queue -/
abbrev bd_Z : Type := Nat × Nat × Nat × Nat × Nat
def bd_mo : bd_Z → Nat → Option bd_Z
  | (qe, O, F, B, Q), p => match bd_g 1 O p with
    | 0 => match Nat.ble 10 qe with
      | true => none
      | false => some (qe + 1, bd_s 1 O p 1, F, B, bd_s 4 Q qe p)
    | _ + 1 => some (qe, O, F, B, Q)
def bd_mb1 (M F B : Nat) : Nat → Nat → Nat → Option Nat
  | 0, _, P => some P
  | n + 1, x, P => match bd_g 4 M x with
    | 0 => some P
    | m + 1 => match bd_g 4 F m with
      | 0 => none
      | f + 1 => bd_mb1 M F B n (bd_g 4 B f) (bd_s 1 P (bd_g 4 B f) 1)
def bd_mb2 (M F B P : Nat) : Nat → Nat → Option Nat
  | 0, y => some y
  | n + 1, y => match bd_g 1 P y with
    | 0 => match bd_g 4 M y with
      | 0 => none
      | m + 1 => match bd_g 4 F m with
        | 0 => none
        | f + 1 => bd_mb2 M F B P n (bd_g 4 B f)
    | _ + 1 => some y
def bd_mb (M F B a b : Nat) : Option Nat := match bd_mb1 M F B 10 (bd_g 4 B a) (bd_s 1 0 (bd_g 4 B a) 1) with
  | none => none
  | some P => bd_mb2 M F B P 10 (bd_g 4 B b)
def bd_mw (M B com : Nat) : Nat → Nat → Nat → Nat → Nat → Option (Nat × Nat)
  | 0, _, _, F, R => some (F, R)
  | n + 1, v, c, F, R => match Nat.beq (bd_g 4 B v) com with
    | true => some (F, R)
    | false => match bd_g 4 M v with
      | 0 => none
      | m + 1 => match bd_g 4 (bd_s 4 F v (c + 1)) m with
        | 0 => none
        | f + 1 => bd_mw M B com n f m (bd_s 4 F v (c + 1)) (bd_s 1 (bd_s 1 R (bd_g 4 B v) 1) (bd_g 4 B m) 1)
def bd_dt2 (com R : Nat) : Nat → Nat → bd_Z → Option bd_Z
  | 0, _, s => some s
  | n + 1, i, (qe, O, F, B, Q) => match bd_g 1 R (bd_g 4 B i) with
    | 0 => bd_dt2 com R n (i + 1) (qe, O, F, B, Q)
    | _ + 1 => match bd_mo (qe, O, F, bd_s 4 B i com, Q) i with
      | none => none
      | some s => bd_dt2 com R n (i + 1) s
def bd_dt (M a b : Nat) : bd_Z → Option bd_Z
  | (qe, O, F, B, Q) => match bd_mb M F B a b with
    | none => none
    | some com => match bd_mw M B com 10 a b F 0 with
      | none => none
      | some (F1, R1) => match bd_mw M B com 10 b a F1 R1 with
        | none => none
        | some (F2, R2) => bd_dt2 com R2 10 0 (qe, O, F2, B, Q)
def bd_cl (M F b root : Nat) : Bool := match Nat.beq b root with
  | true => true
  | false => match bd_g 4 M b with
    | 0 => false
    | m + 1 => match bd_g 4 F m with
      | 0 => false
      | _ + 1 => true
def bd_fo (M a b root : Nat) : bd_Z → Option (Nat × bd_Z)
  | (qe, O, F, B, Q) => match Nat.beq (bd_g 4 B a) (bd_g 4 B b) with
    | true => some (0, qe, O, F, B, Q)
    | false => match Nat.beq (bd_g 4 M a) (b + 1) with
      | true => some (0, qe, O, F, B, Q)
      | false => match bd_cl M F b root with
        | true => match bd_dt M a b (qe, O, F, B, Q) with
          | none => none
          | some s => some (0, s)
        | false => match bd_g 4 F b with
          | _ + 1 => some (0, qe, O, F, B, Q)
          | 0 => match bd_g 4 M b with
            | 0 => some (b + 1, qe, O, bd_s 4 F b (a + 1), B, Q)
            | m + 1 => match bd_mo (qe, O, bd_s 4 F b (a + 1), B, Q) m with
              | none => none
              | some s => some (0, s)
def bd_to (J ab M root k : Nat) : Nat → Nat → bd_Z → Option (Nat × bd_Z)
  | 0, _, s => some (0, s)
  | n + 1, i, (qe, O, F, B, Q) => match Nat.ble qe k with
    | true => none
    | false => match bd_g 1 (bd_g 10 J (bd_g 4 Q k)) i with
      | 0 => bd_to J ab M root k n (i + 1) (qe, O, F, B, Q)
      | _ + 1 => match bd_g 1 ab i with
        | _ + 1 => bd_to J ab M root k n (i + 1) (qe, O, F, B, Q)
        | 0 => match bd_fo M (bd_g 4 Q k) i root (qe, O, F, B, Q) with
          | none => none
          | some (0, s) => bd_to J ab M root k n (i + 1) s
          | some (e + 1, s) => some (e + 1, s)
def bd_k (J ab M root : Nat) : Nat → Nat → bd_Z → Option (Nat × bd_Z)
  | 0, _, s => some (0, s)
  | n + 1, k, (qe, O, F, B, Q) => match Nat.ble qe k with
    | true => some (0, qe, O, F, B, Q)
    | false => match bd_to J ab M root k 10 0 (qe, O, F, B, Q) with
      | none => none
      | some (0, s) => bd_k J ab M root n (k + 1) s
      | some (e + 1, s) => some (e + 1, s)
def bd_B0 : Nat := 654820258320
def bd_se (J ab M root : Nat) : Option (Nat × bd_Z) := match bd_mo (0, 0, 0, bd_B0, 0) root with
  | none => none
  | some s => bd_k J ab M root 10 0 s
def bd_tu (F : Nat) : Nat → Nat → Nat → Option Nat
  | 0, _, M => some M
  | n + 1, v, M => match v with
    | 0 => some M
    | v + 1 => match bd_g 4 F v with
      | 0 => none
      | b + 1 => bd_tu F n (bd_g 4 M b) (bd_s 4 (bd_s 4 M v (b + 1)) b (v + 1))
def bd_pl (J ab : Nat) : Nat → Nat → Nat → Nat → Option (Nat × Nat)
  | 0, _, l, M => some (l, M)
  | n + 1, p, l, M => match bd_g 4 M p with
    | _ + 1 => bd_pl J ab n (p + 1) l M
    | 0 => match bd_g 1 ab p with
      | _ + 1 => bd_pl J ab n (p + 1) l M
      | 0 => match bd_se J ab M p with
        | none => none
        | some (0, _) => bd_pl J ab n (p + 1) l M
        | some (e + 1, (_, _, F, _, _)) => match bd_tu F 10 (e + 1) M with
          | none => none
          | some M' => bd_pl J ab n (p + 1) (l + 1) M'
def bd_pw (J ab : Nat) : Option (Nat × Nat) := bd_pl J ab 10 0 0 0
def bd_oi (O : Nat) : Nat → Nat → Nat → Nat
  | 0, _, S => S
  | n + 1, i, S => match bd_g 1 O i with
    | 0 => bd_oi O n (i + 1) S
    | _ + 1 => bd_oi O n (i + 1) (Nat.lor S (Nat.shiftLeft 1 i))
def bd_sp (J M : Nat) : Nat → Nat → Nat → Option Nat
  | 0, _, S => some S
  | n + 1, p, S => match bd_g 4 M p with
    | _ + 1 => bd_sp J M n (p + 1) S
    | 0 => match bd_se J 0 M p with
      | none => none
      | some (_, (_, O, _, _, _)) => bd_sp J M n (p + 1) (bd_oi O 10 0 S)
/-- pairWithout(0), then spares() -/
def bd_ps (J : Nat) : Option Nat := match bd_pw J 0 with
  | none => none
  | some (_, M) => match bd_sp J M 10 0 0 with
    | none => none
    | some S => match Nat.ble 1024 S with
      | true => none
      | false => some S
def bd_gl (J S : Nat) : Nat → Nat → Nat → Nat
  | 0, _, T => T
  | n + 1, p, T => match bd_g 1 S p with
    | 0 => bd_gl J S n (p + 1) T
    | _ + 1 => bd_gl J S n (p + 1) (Nat.lor T (bd_g 10 J p))
def bd_gu (J : Nat) : Option Nat := match bd_ps J with
  | none => none
  | some S => some (bd_wo (bd_gl J S 10 0 0) S)
def bd_pi (J W : Nat) : Nat → Nat → Nat → Nat
  | 0, _, P => P
  | n + 1, p, P => match bd_g 1 P p with
    | 0 => bd_pi J W n (p + 1) P
    | _ + 1 => bd_pi J W n (p + 1) (Nat.lor P (Nat.land (bd_g 10 J p) W))
def bd_pr (J W : Nat) : Nat → Nat → Nat
  | 0, P => P
  | n + 1, P => bd_pr J W n (bd_pi J W 10 0 P)
def bd_pa (J : Nat) : Nat → Nat → Nat → Nat → Nat
  | 0, _, _, c => c
  | n + 1, p, W, c => match bd_g 1 W p with
    | 0 => bd_pa J n (p + 1) W c
    | _ + 1 => bd_pa J n (p + 1) (bd_wo W (bd_pr J W 10 (Nat.shiftLeft 1 p))) (c + 1)
def bd_pt (J : Nat) : Option Nat := match bd_gu J with
  | none => none
  | some G => some (bd_pa J 10 0 (bd_wo 1023 G) 0)
/-- pairWithout's answer, and that it is small -/
def bd_pv (J ab : Nat) : Option Nat := match bd_pw J ab with
  | none => none
  | some (l, _) => match Nat.ble 1024 l with
    | true => none
    | false => some l
def bd_jn (J a b : Nat) : Nat := bd_s 10 (bd_s 10 J a (Nat.lor (bd_g 10 J a) (Nat.shiftLeft 1 b))) b (Nat.lor (bd_g 10 (bd_s 10 J a (Nat.lor (bd_g 10 J a) (Nat.shiftLeft 1 b))) b) (Nat.shiftLeft 1 a))
def bd_un (J a b : Nat) : Nat := bd_s 10 (bd_s 10 J a (bd_wo (bd_g 10 J a) (Nat.shiftLeft 1 b))) b (bd_wo (bd_g 10 (bd_s 10 J a (bd_wo (bd_g 10 J a) (Nat.shiftLeft 1 b))) b) (Nat.shiftLeft 1 a))
def bd_us (J a b : Nat) : Option Nat := match bd_pv J 0 with
  | none => none
  | some l => match bd_pv J (Nat.lor (Nat.shiftLeft 1 a) (Nat.shiftLeft 1 b)) with
    | none => none
    | some o => match bd_g 1 (bd_g 10 J a) b with
      | 0 => some 0
      | _ + 1 => match Nat.beq (o + 1) l with
        | true => some 1
        | false => some 0
/-- needed: the answer, and the lines behind it -/
def bd_nd (J a b : Nat) : Option (Nat × Nat) := match bd_pv J 0 with
  | none => none
  | some l => match bd_pv (bd_un J a b) 0 with
    | none => none
    | some o => match Nat.ble l o with
      | true => some (0, match bd_g 1 (bd_g 10 J a) b with | 0 => bd_un J a b | _ + 1 => bd_jn (bd_un J a b) a b)
      | false => some (1, match bd_g 1 (bd_g 10 J a) b with | 0 => bd_un J a b | _ + 1 => bd_jn (bd_un J a b) a b)
/-- a join of two points that had no line -/
def bd_jc (J a b : Nat) : Option Nat := match Nat.ble 10 a with
  | true => none
  | false => match Nat.ble 10 b with
    | true => none
    | false => match Nat.beq a b with
      | true => none
      | false => match bd_g 1 (bd_g 10 J a) b with
        | 0 => some (bd_jn J a b)
        | _ + 1 => none
/-- the law's first loop -/
def bd_jo (m i J a b : Nat) : Option Nat := match Nat.ble m i with
  | true => some J
  | false => bd_jc J a b
def bd_bu (m n s : Nat) : Nat → Nat → Nat → Option Nat
  | 0, _, J => some J
  | c + 1, i, J => match bd_jo m i J i ((i + 1) % m) with
    | none => none
    | some J1 => match bd_jo n i J1 (s + i) (s + (i + 1) % n) with
      | none => none
      | some J2 => bd_bu m n s c (i + 1) J2
/-- how many of the ten low bits -/
def bd_ct (S : Nat) : Nat → Nat → Nat → Nat
  | 0, _, g => g
  | n + 1, i, g => bd_ct S n (i + 1) (g + bd_g 1 S i)
end
section
/-! ===== makeOuter, isLine, meetingBase, markWay, drawTogether, follow ===== -/
def bd_T : bd_Z → (Nat → Int32) → (Nat → Int32) → (Nat → Int32) → (Nat → Int32) → Prop
  | (qe, O, F, B, Q), a3, a4, a5, a8 => bd_R 10 1 2 nI a3 O ∧ bd_R 10 4 11 bd_v a4 F ∧ bd_R 10 4 10 nI a5 B ∧ bd_R qe 4 10 nI a8 Q ∧ qe ≤ 10
theorem bd_makeOuter {post : St2 → Prop} {f0 : Int32} {a1 a2 a3 a4 a5 a6 a7 a8 : Nat → Int32} {s s' : bd_Z} {p : Nat} (hp : p < 10) (hT : bd_T s a3 a4 a5 a8) (e : bd_mo s p = some s')
    (H : ∀ a3' a8', bd_T s' a3' a4 a5 a8' → post (f0, nI s'.1, a1, a2, a3', a4, a5, a6, a7, a8')) : wpX_makeOuter post (f0, nI s.1, a1, a2, a3, a4, a5, a6, a7, a8) (nI p) := by
  obtain ⟨qe, O, F, B, Q⟩ := s
  obtain ⟨h3, h4, h5, h8, hq⟩ := hT
  refine ⟨pk_in p 10 hp, ?_⟩
  cases hO : bd_g 1 O p with
  | zero =>
    cases hb : Nat.ble 10 qe with
    | true =>
      simp only [bd_mo, hO, hb] at e
      exact absurd e (by simp)
    | false =>
      simp only [bd_mo, hO, hb] at e
      cases e
      have hlt : qe < 10 := by
        rcases Nat.lt_or_ge qe 10 with g | g
        · exact g
        · rw [Nat.ble_eq_true_of_le g] at hb
          cases hb
      refine br_t (bd_b0 h3 hp hO) ⟨pk_in p 10 hp, nm_r (bd_uc hp) ⟨pk_in qe 10 hlt, nm_r (bd_uc hlt) (nm_r (nI_1 qe) ?_)⟩⟩
      exact H _ _ ⟨bd_R_u h3 (by decide) (by decide) rfl, h4, h5, bd_R_p h8 hp (by decide) rfl, hlt⟩
  | succ m =>
    simp only [bd_mo, hO] at e
    cases e
    exact br_f (bd_b1 h3 hp hO) (H a3 a8 ⟨h3, h4, h5, h8, hq⟩)
theorem bd_isLine {post : Int32 → Prop} {f0 f1 : Int32} {a1 a2 a3 a4 a5 a6 a7 a8 : Nat → Int32} {J q i : Nat} (hJ : bd_R 10 10 1024 nI a1 J) (hq : q < 10) (hi : i < 10)
    (H : post (nI (bd_g 1 (bd_g 10 J q) i))) : wpX_isLine post (f0, f1, a1, a2, a3, a4, a5, a6, a7, a8) (nI q) (nI i) := by
  obtain ⟨hb, e1⟩ := bd_Rn hJ hq (by omega)
  refine ⟨pk_in q 10 hq, ?_⟩
  rw [e1]
  rcases bd_01 (bd_g 10 J q) i with h | h
  · rw [h] at H
    exact br_t (bd_bit0 (by omega) (by omega) h) H
  · rw [h] at H
    exact br_f (bd_bit1 (m := 0) (by omega) (by omega) h) H
section
variable {post : Int32 → St2 → Prop} {f0 f1 : Int32} {a1 a2 a3 a4 a5 a6 a7 a8 : Nat → Int32} {M F B : Nat}
theorem bd_w95 {P c : Nat} (hM : bd_R 10 4 11 bd_v a2 M) (hF : bd_R 10 4 11 bd_v a4 F) (hB : bd_R 10 4 10 nI a5 B) (hP : bd_R 10 1 2 nI a7 P)
    (H : c < 10 → post (nI c) (f0, f1, a1, a2, a3, a4, a5, a6, a7, a8)) : ∀ n i y, i + n = 10 → y < 10 → bd_mb2 M F B P n y = some c → wX_meetingBase_95 post f0 f1 a1 a2 a3 a4 a5 a6 a7 a8 (n + 1) (nI y) (nI i)
  | 0, i, y, hi, hy, e => by
    cases e
    exact br_t (nI_le (a := 10) (by omega) (by omega)) (H hy)
  | n + 1, i, y, hi, hy, e => by
    refine br_f (nI_ge (b := 10) (by omega) (by decide)) ⟨pk_in y 10 hy, ?_⟩
    cases h1 : bd_g 1 P y with
    | succ k =>
      simp only [bd_mb2, h1] at e
      cases e
      exact br_f (bd_b1 hP hy h1) (H hy)
    | zero =>
      cases hm : bd_g 4 M y with
      | zero =>
        simp only [bd_mb2, h1, hm] at e
        exact absurd e (by simp)
      | succ m =>
        obtain ⟨m1, em⟩ := bd_Rs hM hy hm
        cases hf : bd_g 4 F m with
        | zero =>
          simp only [bd_mb2, h1, hm, hf] at e
          exact absurd e (by simp)
        | succ f =>
          obtain ⟨f1', ef⟩ := bd_Rs hF m1 hf
          obtain ⟨b1, eb⟩ := bd_Rn hB f1' (by omega)
          simp only [bd_mb2, h1, hm, hf] at e
          have ef' : a4 (a2 (nI y).toNatClampNeg).toNatClampNeg = nI f := by rw [em, ef]
          exact br_t (bd_b0 hP hy h1) ⟨pk_in y 10 hy, pk_in m 10 m1 em, pk_in f 10 f1' ef', nm_r ((congrArg (fun t : Int32 => a5 t.toNatClampNeg) ef').trans eb) (nm_r (nI_1 i) (bd_w95 hM hF hB hP H n (i + 1) _ (by omega) b1 e))⟩
theorem bd_w38 {P' b : Nat} (hM : bd_R 10 4 11 bd_v a2 M) (hF : bd_R 10 4 11 bd_v a4 F) (hB : bd_R 10 4 10 nI a5 B) (hb : b < 10)
    (H : ∀ a7', bd_R 10 1 2 nI a7' P' → ∃ fu, wX_meetingBase_95 post f0 f1 a1 a2 a3 a4 a5 a6 a7' a8 fu (nI (bd_g 4 B b)) 0) :
    ∀ n i x P a7, i + n = 10 → x < 10 → bd_R 10 1 2 nI a7 P → bd_mb1 M F B n x P = some P' → wX_meetingBase_38 post (nI b) f0 f1 (n + 1) (nI x) (nI i) a1 a2 a3 a4 a5 a6 a7 a8
  | 0, i, x, P, a7, hi, hx, hP, e => by
    cases e
    exact br_t (nI_le (a := 10) (by omega) (by omega)) ⟨pk_in b 10 hb, nm_r (bd_Rn hB hb (by omega)).2 (H a7 hP)⟩
  | n + 1, i, x, P, a7, hi, hx, hP, e => by
    refine br_f (nI_ge (b := 10) (by omega) (by decide)) ⟨pk_in x 10 hx, ?_⟩
    cases hm : bd_g 4 M x with
    | zero =>
      simp only [bd_mb1, hm] at e
      cases e
      exact br_t (by rw [bd_Rz hM hx hm]; decide) ⟨pk_in b 10 hb, nm_r (bd_Rn hB hb (by omega)).2 (H a7 hP)⟩
    | succ m =>
      obtain ⟨m1, em⟩ := bd_Rs hM hx hm
      cases hf : bd_g 4 F m with
      | zero =>
        simp only [bd_mb1, hm, hf] at e
        exact absurd e (by simp)
      | succ f =>
        obtain ⟨f1', ef⟩ := bd_Rs hF m1 hf
        obtain ⟨b1, eb⟩ := bd_Rn hB f1' (by omega)
        simp only [bd_mb1, hm, hf] at e
        have ef' : a4 (a2 (nI x).toNatClampNeg).toNatClampNeg = nI f := by rw [em, ef]
        exact br_f (by rw [em]; exact nI_pos (by omega)) ⟨pk_in x 10 hx, pk_in m 10 m1 em, pk_in f 10 f1' ef', nm_r ((congrArg (fun t : Int32 => a5 t.toNatClampNeg) ef').trans eb) ⟨pk_in _ 10 b1, nm_r (bd_uc b1) (nm_r (nI_1 i) (bd_w38 hM hF hB hb H n (i + 1) _ _ _ (by omega) b1 (bd_R_u hP (by decide) (by decide) rfl) e))⟩⟩
theorem bd_w2 {a b : Nat} (hB : bd_R 10 4 10 nI a5 B) (ha : a < 10)
    (H : ∀ a7', bd_R 10 1 2 nI a7' (bd_s 1 0 (bd_g 4 B a) 1) → ∃ fu, wX_meetingBase_38 post (nI b) f0 f1 fu (nI (bd_g 4 B a)) 0 a1 a2 a3 a4 a5 a6 a7' a8) :
    ∀ n i a7, i + n = 10 → (∀ k, k < i → a7 k = 0) → wX_meetingBase_2 post (nI a) (nI b) f0 f1 (n + 1) (nI i) a1 a2 a3 a4 a5 a6 a7 a8
  | 0, i, a7, hi, h7 => by
    obtain rfl : i = 10 := by omega
    obtain ⟨b1, eb⟩ := bd_Rn hB ha (by omega)
    exact br_t (nI_le (a := 10) (by omega) (by omega)) ⟨pk_in a 10 ha, nm_r eb ⟨pk_in _ 10 b1, nm_r (bd_uc b1) (H _ (bd_R_u (bd_R_0 h7 (by decide) rfl) (by decide) (by decide) rfl))⟩⟩
  | n + 1, i, a7, hi, h7 => by
    exact br_f (nI_ge (b := 10) (by omega) (by decide)) ⟨pk_in i 10 (by omega), nm_r (bd_uc (by omega)) (nm_r (nI_1 i) (bd_w2 hB ha H n (i + 1) _ (by omega) (bd_fill (f := fun _ => 0) h7 rfl)))⟩
theorem bd_meetingBase {a b c : Nat} (hM : bd_R 10 4 11 bd_v a2 M) (hF : bd_R 10 4 11 bd_v a4 F) (hB : bd_R 10 4 10 nI a5 B) (ha : a < 10) (hb : b < 10) (e : bd_mb M F B a b = some c)
    (H : ∀ a7', c < 10 → post (nI c) (f0, f1, a1, a2, a3, a4, a5, a6, a7', a8)) : wpX_meetingBase post (f0, f1, a1, a2, a3, a4, a5, a6, a7, a8) (nI a) (nI b) := by
  cases h1 : bd_mb1 M F B 10 (bd_g 4 B a) (bd_s 1 0 (bd_g 4 B a) 1) with
  | none =>
    simp only [bd_mb, h1] at e
    exact absurd e (by simp)
  | some P =>
    simp only [bd_mb, h1] at e
    exact ⟨11, bd_w2 hB ha (fun a7' h7 => ⟨11, bd_w38 hM hF hB hb (fun a7'' h7'' => ⟨11, bd_w95 hM hF hB h7'' (H a7'') 10 0 _ rfl (hB b hb).1 e⟩) 10 0 _ _ a7' rfl (hB a ha).1 h7 h1⟩) 10 0 a7 rfl (fun k hk => absurd hk (by omega))⟩
end
section
variable {post : St2 → Prop} {f0 f1 : Int32} {a1 a2 a3 a4 a5 a6 a7 a8 : Nat → Int32} {M B com : Nat}
theorem bd_w9 {F' R' : Nat} (hM : bd_R 10 4 11 bd_v a2 M) (hB : bd_R 10 4 10 nI a5 B) (hc : com < 10)
    (H : ∀ a4' a6', bd_R 10 4 11 bd_v a4' F' → bd_R 10 1 2 nI a6' R' → post (f0, f1, a1, a2, a3, a4', a5, a6', a7, a8)) :
    ∀ n i v c F R a4 a6, i + n = 10 → v < 10 → c < 10 → bd_R 10 4 11 bd_v a4 F → bd_R 10 1 2 nI a6 R → bd_mw M B com n v c F R = some (F', R') → wX_markWay_9 post (nI com) f0 f1 (n + 1) (nI v) (nI c) (nI i) a1 a2 a3 a4 a5 a6 a7 a8
  | 0, i, v, c, F, R, a4, a6, hi, hv, hcc, hF, hR, e => by
    cases e
    exact br_t (nI_le (a := 10) (by omega) (by omega)) (H a4 a6 hF hR)
  | n + 1, i, v, c, F, R, a4, a6, hi, hv, hcc, hF, hR, e => by
    obtain ⟨bv, ebv⟩ := bd_Rn hB hv (by omega)
    refine br_f (nI_ge (b := 10) (by omega) (by decide)) ⟨pk_in v 10 hv, ?_⟩
    cases hq : Nat.beq (bd_g 4 B v) com with
    | true =>
      simp only [bd_mw, hq] at e
      cases e
      exact br_t (by rw [ebv, Nat.eq_of_beq_eq_true hq]) (H a4 a6 hF hR)
    | false =>
      have hne : ¬ a5 (nI v).toNatClampNeg = nI com := by
        rw [ebv, nI_eq (by omega) (by omega)]
        exact Nat.ne_of_beq_eq_false hq
      cases hm : bd_g 4 M v with
      | zero =>
        simp only [bd_mw, hq, hm] at e
        exact absurd e (by simp)
      | succ m =>
        obtain ⟨m1, em⟩ := bd_Rs hM hv hm
        obtain ⟨bm, ebm⟩ := bd_Rn hB m1 (by omega)
        have hF2 : bd_R 10 4 11 bd_v (upd a4 v (nI c)) (bd_s 4 F v (c + 1)) := bd_R_u hF (by omega) (by decide) (bd_vs c).symm
        cases hf : bd_g 4 (bd_s 4 F v (c + 1)) m with
        | zero =>
          simp only [bd_mw, hq, hm, hf] at e
          exact absurd e (by simp)
        | succ f =>
          obtain ⟨f1', ef⟩ := bd_Rs hF2 m1 hf
          simp only [bd_mw, hq, hm, hf] at e
          have ebm' : a5 (a2 (nI v).toNatClampNeg).toNatClampNeg = nI (bd_g 4 B m) := by rw [em, ebm]
          have ef' : upd a4 v (nI c) (a2 (nI v).toNatClampNeg).toNatClampNeg = nI f := by rw [em, ef]
          refine br_f hne ⟨pk_in v 10 hv, pk_in _ 10 bv ebv, nm_r (bd_ucE bv ebv) ⟨pk_in v 10 hv, pk_in m 10 m1 em, pk_in _ 10 bm ebm', nm_r (bd_ucE bm ebm') ⟨pk_in v 10 hv, nm_r (bd_uc hv) ⟨pk_in v 10 hv, nm_r em ⟨pk_in v 10 hv, pk_in m 10 m1 em, nm_r ef' (nm_r (nI_1 i) ?_)⟩⟩⟩⟩⟩
          exact bd_w9 hM hB hc H n (i + 1) f m _ _ _ _ (by omega) f1' m1 hF2 (bd_R_u (bd_R_u hR (by decide) (by decide) rfl) (by decide) (by decide) rfl) e
theorem bd_markWay {F R F' R' v c : Nat} (hM : bd_R 10 4 11 bd_v a2 M) (hB : bd_R 10 4 10 nI a5 B) (hc : com < 10) (hv : v < 10) (hcc : c < 10) (hF : bd_R 10 4 11 bd_v a4 F) (hR : bd_R 10 1 2 nI a6 R) (e : bd_mw M B com 10 v c F R = some (F', R'))
    (H : ∀ a4' a6', bd_R 10 4 11 bd_v a4' F' → bd_R 10 1 2 nI a6' R' → post (f0, f1, a1, a2, a3, a4', a5, a6', a7, a8)) : wpX_markWay post (f0, f1, a1, a2, a3, a4, a5, a6, a7, a8) (nI v) (nI com) (nI c) :=
  ⟨11, bd_w9 hM hB hc H 10 0 v c F R a4 a6 rfl hv hcc hF hR e⟩
theorem bd_w48 {R : Nat} {s' : bd_Z} (hc : com < 10) (hR : bd_R 10 1 2 nI a6 R) (H : ∀ a3' a5' a8', bd_T s' a3' a4 a5' a8' → post (f0, nI s'.1, a1, a2, a3', a4, a5', a6, a7, a8')) :
    ∀ n i s a3 a5 a8, i + n = 10 → bd_T s a3 a4 a5 a8 → bd_dt2 com R n i s = some s' → wX_drawTogether_48 post (nI com) (n + 1) (nI i) f0 (nI s.1) a1 a2 a3 a4 a5 a6 a7 a8
  | 0, i, s, a3, a5, a8, hi, hT, e => by
    cases e
    exact br_t (nI_le (a := 10) (by omega) (by omega)) (H a3 a5 a8 hT)
  | n + 1, i, (qe, O, F, B, Q), a3, a5, a8, hi, hT, e => by
    obtain ⟨h3, h4, h5, h8, hq⟩ := id hT
    have h10 : i < 10 := by omega
    obtain ⟨bi, ebi⟩ := bd_Rn h5 h10 (by omega)
    refine br_f (nI_ge (b := 10) (by omega) (by decide)) ⟨pk_in i 10 h10, pk_in _ 10 bi ebi, ?_⟩
    cases hb : bd_g 1 R (bd_g 4 B i) with
    | zero =>
      simp only [bd_dt2, hb] at e
      exact br_t (by rw [ebi]; exact bd_b0 hR bi hb) (nm_r (nI_1 i) (bd_w48 hc hR H n (i + 1) _ a3 a5 a8 (by omega) hT e))
    | succ m =>
      cases hmo : bd_mo (qe, O, F, bd_s 4 B i com, Q) i with
      | none =>
        simp only [bd_dt2, hb, hmo] at e
        exact absurd e (by simp)
      | some s2 =>
        simp only [bd_dt2, hb, hmo] at e
        refine br_f (by rw [ebi]; exact bd_b1 hR bi hb) ⟨pk_in i 10 h10, nm_r (bd_uc h10) ?_⟩
        exact bd_makeOuter (s := (qe, O, F, bd_s 4 B i com, Q)) h10 ⟨h3, h4, bd_R_u h5 hc (by decide) rfl, h8, hq⟩ hmo (fun a3' a8' hT' => nm_r (nI_1 i) (bd_w48 hc hR H n (i + 1) s2 a3' _ a8' (by omega) hT' e))
theorem bd_w10 {a b qe O F Q F1 R1 F2 R2 : Nat} {s' : bd_Z} (hM : bd_R 10 4 11 bd_v a2 M) (hT : bd_T (qe, O, F, B, Q) a3 a4 a5 a8) (hc : com < 10) (ha : a < 10) (hb : b < 10)
    (e1 : bd_mw M B com 10 a b F 0 = some (F1, R1)) (e2 : bd_mw M B com 10 b a F1 R1 = some (F2, R2)) (e3 : bd_dt2 com R2 10 0 (qe, O, F2, B, Q) = some s')
    (H : ∀ a3' a4' a5' a6' a8', bd_T s' a3' a4' a5' a8' → post (f0, nI s'.1, a1, a2, a3', a4', a5', a6', a7, a8')) :
    ∀ n i a6, i + n = 10 → (∀ k, k < i → a6 k = 0) → wX_drawTogether_10 post (nI a) (nI b) (nI com) f0 (nI qe) (n + 1) (nI i) a1 a2 a3 a4 a5 a6 a7 a8
  | 0, i, a6, hi, h6 => by
    obtain rfl : i = 10 := by omega
    obtain ⟨h3, h4, h5, h8, hq⟩ := id hT
    refine br_t (nI_le (a := 10) (by omega) (by omega)) ?_
    refine bd_markWay hM h5 hc ha hb h4 (bd_R_0 h6 (by decide) rfl) e1 (fun a4' a6' hF1 hR1 => ?_)
    refine bd_markWay hM h5 hc hb ha hF1 hR1 e2 (fun a4'' a6'' hF2 hR2 => ?_)
    exact ⟨11, bd_w48 hc hR2 (fun a3' a5' a8' hT' => H a3' a4'' a5' a6'' a8' hT') 10 0 (qe, O, F2, B, Q) a3 a5 a8 rfl ⟨h3, hF2, h5, h8, hq⟩ e3⟩
  | n + 1, i, a6, hi, h6 => by
    exact br_f (nI_ge (b := 10) (by omega) (by decide)) ⟨pk_in i 10 (by omega), nm_r (bd_uc (by omega)) (nm_r (nI_1 i) (bd_w10 hM hT hc ha hb e1 e2 e3 H n (i + 1) _ (by omega) (bd_fill (f := fun _ => 0) h6 rfl)))⟩
theorem bd_drawTogether {a b : Nat} {s s' : bd_Z} (hM : bd_R 10 4 11 bd_v a2 M) (hT : bd_T s a3 a4 a5 a8) (ha : a < 10) (hb : b < 10) (e : bd_dt M a b s = some s')
    (H : ∀ a3' a4' a5' a6' a7' a8', bd_T s' a3' a4' a5' a8' → post (f0, nI s'.1, a1, a2, a3', a4', a5', a6', a7', a8')) : wpX_drawTogether post (f0, nI s.1, a1, a2, a3, a4, a5, a6, a7, a8) (nI a) (nI b) := by
  obtain ⟨qe, O, F, B, Q⟩ := s
  obtain ⟨h3, h4, h5, h8, hq⟩ := id hT
  cases h1 : bd_mb M F B a b with
  | none =>
    simp only [bd_dt, h1] at e
    exact absurd e (by simp)
  | some com =>
    cases h2 : bd_mw M B com 10 a b F 0 with
    | none =>
      simp only [bd_dt, h1, h2] at e
      exact absurd e (by simp)
    | some fr =>
      obtain ⟨F1, R1⟩ := fr
      cases h3' : bd_mw M B com 10 b a F1 R1 with
      | none =>
        simp only [bd_dt, h1, h2, h3'] at e
        exact absurd e (by simp)
      | some fr =>
        obtain ⟨F2, R2⟩ := fr
        simp only [bd_dt, h1, h2, h3'] at e
        exact bd_meetingBase hM h4 h5 ha hb h1 (fun a7' hc => ⟨11, bd_w10 hM hT hc ha hb h2 h3' e (fun a3' a4' a5' a6' a8' hT' => H a3' a4' a5' a6' a7' a8' hT') 10 0 a6 rfl (fun k hk => absurd hk (by omega))⟩)
end
section
variable {post : Int32 → St2 → Prop} {f0 : Int32} {a1 a2 a3 a4 a5 a6 a7 a8 : Nat → Int32} {M : Nat}
theorem bd_w60t {a b : Nat} {s s' : bd_Z} (hM : bd_R 10 4 11 bd_v a2 M) (hT : bd_T s a3 a4 a5 a8) (ha : a < 10) (hb : b < 10) (e : bd_dt M a b s = some s')
    (H : ∀ a3' a4' a5' a6' a7' a8', bd_T s' a3' a4' a5' a8' → post (-1) (f0, nI s'.1, a1, a2, a3', a4', a5', a6', a7', a8')) : wX_follow_60 post (nI a) (nI b) 1 f0 (nI s.1) a1 a2 a3 a4 a5 a6 a7 a8 :=
  br_f (by decide) (bd_drawTogether hM hT ha hb e H)
theorem bd_w60f {a b r qe O F B Q : Nat} {s' : bd_Z} (hM : bd_R 10 4 11 bd_v a2 M) (hT : bd_T (qe, O, F, B, Q) a3 a4 a5 a8) (ha : a < 10) (hb : b < 10)
    (e : (match bd_g 4 F b with
          | _ + 1 => some (0, qe, O, F, B, Q)
          | 0 => match bd_g 4 M b with
            | 0 => some (b + 1, qe, O, bd_s 4 F b (a + 1), B, Q)
            | m + 1 => match bd_mo (qe, O, bd_s 4 F b (a + 1), B, Q) m with
              | none => none
              | some s => some (0, s)) = some (r, s'))
    (H : r < 11 → ∀ a3' a4' a5' a6' a7' a8', bd_T s' a3' a4' a5' a8' → post (bd_v r) (f0, nI s'.1, a1, a2, a3', a4', a5', a6', a7', a8')) : wX_follow_60 post (nI a) (nI b) 0 f0 (nI qe) a1 a2 a3 a4 a5 a6 a7 a8 := by
  obtain ⟨h3, h4, h5, h8, hq⟩ := id hT
  refine br_t rfl ⟨pk_in b 10 hb, ?_⟩
  cases hF : bd_g 4 F b with
  | succ f =>
    simp only [hF] at e
    cases e
    refine br_t (by rw [(bd_Rs h4 hb hF).2]; exact nI_pos' (by have := (bd_Rs h4 hb hF).1; omega)) ?_
    have h := H (by omega) a3 a4 a5 a6 a7 a8 hT
    rw [bd_v0] at h
    exact h
  | zero =>
    have hF2 : bd_R 10 4 11 bd_v (upd a4 b (nI a)) (bd_s 4 F b (a + 1)) := bd_R_u h4 (by omega) (by decide) (bd_vs a).symm
    refine br_f (by rw [bd_Rz h4 hb hF]; decide) ⟨pk_in b 10 hb, nm_r (bd_uc hb) ⟨pk_in b 10 hb, ?_⟩⟩
    cases hm : bd_g 4 M b with
    | zero =>
      simp only [hF, hm] at e
      cases e
      refine br_f (by rw [bd_Rz hM hb hm]; decide) ?_
      have h := H (by omega) a3 _ a5 a6 a7 a8 ⟨h3, hF2, h5, h8, hq⟩
      rw [bd_vs] at h
      exact h
    | succ m =>
      obtain ⟨m1, em⟩ := bd_Rs hM hb hm
      cases hmo : bd_mo (qe, O, bd_s 4 F b (a + 1), B, Q) m with
      | none =>
        simp only [hF, hm, hmo] at e
        exact absurd e (by simp)
      | some s2 =>
        simp only [hF, hm, hmo] at e
        cases e
        refine br_t (by rw [em]; exact nI_pos' (by omega)) ⟨pk_in b 10 hb, ?_⟩
        rw [em]
        refine bd_makeOuter (s := (qe, O, bd_s 4 F b (a + 1), B, Q)) m1 ⟨h3, hF2, h5, h8, hq⟩ hmo (fun a3' a8' hT' => ?_)
        have h := H (by omega) a3' _ a5 a6 a7 a8' hT'
        rw [bd_v0] at h
        exact h
theorem bd_follow {a b root r : Nat} {s s' : bd_Z} (hM : bd_R 10 4 11 bd_v a2 M) (hT : bd_T s a3 a4 a5 a8) (ha : a < 10) (hb : b < 10) (hr : root < 10) (e : bd_fo M a b root s = some (r, s'))
    (H : r < 11 → ∀ a3' a4' a5' a6' a7' a8', bd_T s' a3' a4' a5' a8' → post (bd_v r) (f0, nI s'.1, a1, a2, a3', a4', a5', a6', a7', a8')) : wpX_follow post (f0, nI s.1, a1, a2, a3, a4, a5, a6, a7, a8) (nI a) (nI b) (nI root) := by
  obtain ⟨qe, O, F, B, Q⟩ := s
  obtain ⟨h3, h4, h5, h8, hq⟩ := id hT
  obtain ⟨ba, eba⟩ := bd_Rn h5 ha (by omega)
  obtain ⟨bb, ebb⟩ := bd_Rn h5 hb (by omega)
  refine ⟨pk_in a 10 ha, pk_in b 10 hb, ?_⟩
  cases q1 : Nat.beq (bd_g 4 B a) (bd_g 4 B b) with
  | true =>
    simp only [bd_fo, q1] at e
    cases e
    refine br_t (by rw [eba, ebb, Nat.eq_of_beq_eq_true q1]) ?_
    have h := H (by omega) a3 a4 a5 a6 a7 a8 hT
    rw [bd_v0] at h
    exact h
  | false =>
    refine br_f (by rw [eba, ebb, nI_eq (by omega) (by omega)]; exact Nat.ne_of_beq_eq_false q1) ⟨pk_in a 10 ha, ?_⟩
    have ea2 : a2 (nI a).toNatClampNeg = bd_v (bd_g 4 M a) := by
      rw [nI_clamp (by omega)]
      exact (hM a ha).2
    cases q2 : Nat.beq (bd_g 4 M a) (b + 1) with
    | true =>
      simp only [bd_fo, q1, q2] at e
      cases e
      refine br_t (by rw [ea2, Nat.eq_of_beq_eq_true q2, bd_vs]) ?_
      have h := H (by omega) a3 a4 a5 a6 a7 a8 hT
      rw [bd_v0] at h
      exact h
    | false =>
      have hne : ¬ a2 (nI a).toNatClampNeg = nI b := by
        have hn := Nat.ne_of_beq_eq_false q2
        rw [ea2]
        cases hg : bd_g 4 M a with
        | zero =>
          rw [bd_v0]
          intro hh
          have := nI_pos (n := b) (by omega)
          rw [← hh] at this
          exact this (by decide)
        | succ m =>
          have := (hM a ha).1
          rw [bd_vs, nI_eq (by omega) (by omega)]
          omega
      refine br_f hne ?_
      cases q3 : bd_cl M F b root with
      | true =>
        cases q4 : bd_dt M a b (qe, O, F, B, Q) with
        | none =>
          simp only [bd_fo, q1, q2, q3, q4] at e
          exact absurd e (by simp)
        | some s2 =>
          simp only [bd_fo, q1, q2, q3, q4] at e
          cases e
          have T : wX_follow_60 post (nI a) (nI b) 1 f0 (nI qe) a1 a2 a3 a4 a5 a6 a7 a8 := bd_w60t (s := (qe, O, F, B, Q)) hM hT ha hb q4 (fun a3' a4' a5' a6' a7' a8' hT' => by
            have h := H (by omega) a3' a4' a5' a6' a7' a8' hT'
            rw [bd_v0] at h
            exact h)
          cases q5 : Nat.beq b root with
          | true => exact br_t (by rw [Nat.eq_of_beq_eq_true q5]) T
          | false =>
            refine br_f (by rw [nI_eq (by omega) (by omega)]; exact Nat.ne_of_beq_eq_false q5) ⟨pk_in b 10 hb, ?_⟩
            cases hm : bd_g 4 M b with
            | zero =>
              simp only [bd_cl, q5, hm] at q3
              exact absurd q3 (by simp)
            | succ m =>
              obtain ⟨m1, em⟩ := bd_Rs hM hb hm
              refine br_f (by rw [em]; exact nI_pos (by omega)) ⟨pk_in b 10 hb, pk_in m 10 m1 em, ?_⟩
              cases hf : bd_g 4 F m with
              | zero =>
                simp only [bd_cl, q5, hm, hf] at q3
                exact absurd q3 (by simp)
              | succ f =>
                obtain ⟨f1', ef⟩ := bd_Rs h4 m1 hf
                exact br_f (by rw [em, ef]; exact nI_pos (by omega)) T
      | false =>
        simp only [bd_fo, q1, q2, q3] at e
        have T : wX_follow_60 post (nI a) (nI b) 0 f0 (nI qe) a1 a2 a3 a4 a5 a6 a7 a8 := bd_w60f hM hT ha hb e H
        cases q5 : Nat.beq b root with
        | true =>
          simp only [bd_cl, q5] at q3
          exact absurd q3 (by simp)
        | false =>
          refine br_f (by rw [nI_eq (by omega) (by omega)]; exact Nat.ne_of_beq_eq_false q5) ⟨pk_in b 10 hb, ?_⟩
          cases hm : bd_g 4 M b with
          | zero => exact br_t (by rw [bd_Rz hM hb hm]; decide) T
          | succ m =>
            obtain ⟨m1, em⟩ := bd_Rs hM hb hm
            refine br_f (by rw [em]; exact nI_pos (by omega)) ⟨pk_in b 10 hb, pk_in m 10 m1 em, ?_⟩
            cases hf : bd_g 4 F m with
            | zero => exact br_t (by rw [em, bd_Rz h4 m1 hf]; decide) T
            | succ f =>
              simp only [bd_cl, q5, hm, hf] at q3
              exact absurd q3 (by simp)
end
end
section
/-! ===== search, turn, pairWithout, spares ===== -/
theorem bd_orN (a b : Nat) : nI a ||| nI b = nI (Nat.lor a b) := bd_or a b
theorem bd_andN (a b : Nat) : nI a &&& nI b = nI (Nat.land a b) := bd_and a b
theorem bd_or0 (a : Nat) : nI a ||| 0 = nI a := (bd_or a 0).trans (by rw [Nat.or_zero])
theorem bd_nble {a b : Nat} (h : Nat.ble a b = false) : b < a := by
  rcases Nat.lt_or_ge b a with g | g
  · exact g
  · rw [Nat.ble_eq_true_of_le g] at h
    cases h
section
variable {post : Int32 → St2 → Prop} {a1 a2 : Nat → Int32} {J ab M root : Nat}
theorem bd_w63 {J47 : Int32 → Int32 → Int32 → (Nat → Int32) → (Nat → Int32) → (Nat → Int32) → (Nat → Int32) → (Nat → Int32) → (Nat → Int32) → (Nat → Int32) → (Nat → Int32) → Prop} {k r : Nat} {s' : bd_Z}
    (hJ : bd_R 10 10 1024 nI a1 J) (hM : bd_R 10 4 11 bd_v a2 M) (hab : ab < 1024) (hr : root < 10) (hk : k < 10)
    (H0 : r = 0 → ∀ a3' a4' a5' a6' a7' a8', bd_T s' a3' a4' a5' a8' → J47 (nI (k + 1)) (nI ab) (nI s'.1) a1 a2 a3' a4' a5' a6' a7' a8')
    (H1 : r < 11 → ¬ r = 0 → ∀ a3' a4' a5' a6' a7' a8', bd_T s' a3' a4' a5' a8' → post (bd_v r) (nI ab, nI s'.1, a1, a2, a3', a4', a5', a6', a7', a8')) :
    ∀ n i s a3 a4 a5 a6 a7 a8, i + n = 10 → bd_T s a3 a4 a5 a8 → bd_to J ab M root k n i s = some (r, s') → wX_search_63 post J47 (nI root) (nI k) (n + 1) (nI i) (nI ab) (nI s.1) a1 a2 a3 a4 a5 a6 a7 a8
  | 0, i, s, a3, a4, a5, a6, a7, a8, hi, hT, e => by
    cases e
    exact br_t (nI_le (a := 10) (by omega) (by omega)) (nm_r (nI_1 k) (H0 rfl a3 a4 a5 a6 a7 a8 hT))
  | n + 1, i, (qe, O, F, B, Q), a3, a4, a5, a6, a7, a8, hi, hT, e => by
    obtain ⟨h3, h4, h5, h8, hq⟩ := id hT
    cases hb : Nat.ble qe k with
    | true =>
      simp only [bd_to, hb] at e
      exact absurd e (by simp)
    | false =>
      have hkq := bd_nble hb
      have h10 : i < 10 := by omega
      obtain ⟨q1, eq8⟩ := bd_Rn h8 hkq (by omega)
      have skip : bd_to J ab M root k n (i + 1) (qe, O, F, B, Q) = some (r, s') → wX_search_98 post J47 (wX_search_63 post J47 (nI root) (nI k) (n + 1)) (nI root) (nI k) (nI i) (nI ab) (nI qe) a1 a2 a3 a4 a5 a6 a7 a8 :=
        fun e' => br_t rfl (br_t (by decide) (nm_r (nI_1 i) (bd_w63 hJ hM hab hr hk H0 H1 n (i + 1) (qe, O, F, B, Q) a3 a4 a5 a6 a7 a8 (by omega) hT e')))
      refine br_f (nI_ge (b := 10) (by omega) (by decide)) ⟨pk_in k 10 hk, ?_⟩
      rw [eq8]
      refine bd_isLine hJ q1 h10 ?_
      have hl2 := bd_g_lt 1 (bd_g 10 J (bd_g 4 Q k)) i
      cases hl : bd_g 1 (bd_g 10 J (bd_g 4 Q k)) i with
      | zero =>
        simp only [bd_to, hb, hl] at e
        exact br_t rfl (skip e)
      | succ m =>
        refine br_f (nI_ne0 (by omega) (by omega)) ?_
        cases ha : bd_g 1 ab i with
        | succ m' =>
          simp only [bd_to, hb, hl, ha] at e
          exact br_f (bd_bit1 (by omega) (by omega) ha) (skip e)
        | zero =>
          refine br_t (bd_bit0 (by omega) (by omega) ha) (br_f (by decide) ⟨pk_in k 10 hk, ?_⟩)
          rw [eq8]
          cases hf : bd_fo M (bd_g 4 Q k) i root (qe, O, F, B, Q) with
          | none =>
            simp only [bd_to, hb, hl, ha, hf] at e
            exact absurd e (by simp)
          | some rs =>
            obtain ⟨r2, s2⟩ := rs
            refine bd_follow (s := (qe, O, F, B, Q)) hM hT q1 h10 hr hf (fun hr2 a3' a4' a5' a6' a7' a8' hT' => ?_)
            cases r2 with
            | zero =>
              simp only [bd_to, hb, hl, ha, hf] at e
              exact br_t (by decide) (nm_r (nI_1 i) (bd_w63 hJ hM hab hr hk H0 H1 n (i + 1) s2 a3' a4' a5' a6' a7' a8' (by omega) hT' e))
            | succ e2 =>
              simp only [bd_to, hb, hl, ha, hf] at e
              cases e
              exact br_f (by rw [bd_vs]; exact nI_pos (by omega)) (H1 hr2 (by omega) a3' a4' a5' a6' a7' a8' hT')
theorem bd_w47 {r : Nat} {s' : bd_Z} (hJ : bd_R 10 10 1024 nI a1 J) (hM : bd_R 10 4 11 bd_v a2 M) (hab : ab < 1024) (hr : root < 10)
    (H : r < 11 → ∀ a3' a4' a5' a6' a7' a8', bd_T s' a3' a4' a5' a8' → post (bd_v r) (nI ab, nI s'.1, a1, a2, a3', a4', a5', a6', a7', a8')) :
    ∀ n k s a3 a4 a5 a6 a7 a8, k + n = 10 → bd_T s a3 a4 a5 a8 → bd_k J ab M root n k s = some (r, s') → wX_search_47 post (nI root) (n + 1) (nI k) (nI ab) (nI s.1) a1 a2 a3 a4 a5 a6 a7 a8
  | 0, k, (qe, O, F, B, Q), a3, a4, a5, a6, a7, a8, hk, hT, e => by
    obtain ⟨h3, h4, h5, h8, hq⟩ := id hT
    cases e
    have h := H (by omega) a3 a4 a5 a6 a7 a8 hT
    rw [bd_v0] at h
    exact br_t (nI_le (a := qe) (by omega) (by omega)) h
  | n + 1, k, (qe, O, F, B, Q), a3, a4, a5, a6, a7, a8, hk, hT, e => by
    obtain ⟨h3, h4, h5, h8, hq⟩ := id hT
    cases hb : Nat.ble qe k with
    | true =>
      simp only [bd_k, hb] at e
      cases e
      have h := H (by omega) a3 a4 a5 a6 a7 a8 hT
      rw [bd_v0] at h
      exact br_t (nI_le (a := qe) (Nat.le_of_ble_eq_true hb) (by omega)) h
    | false =>
      have hkq := bd_nble hb
      refine br_f (nI_ge (b := qe) hkq (by omega)) (br_f (nI_ge (b := 10) (by omega) (by decide)) ?_)
      cases ht : bd_to J ab M root k 10 0 (qe, O, F, B, Q) with
      | none =>
        simp only [bd_k, hb, ht] at e
        exact absurd e (by simp)
      | some rs =>
        obtain ⟨r2, s2⟩ := rs
        refine ⟨11, bd_w63 (r := r2) (s' := s2) hJ hM hab hr (by omega) (fun h0 a3' a4' a5' a6' a7' a8' hT' => ?_) (fun h11 hn a3' a4' a5' a6' a7' a8' hT' => ?_) 10 0 (qe, O, F, B, Q) a3 a4 a5 a6 a7 a8 rfl hT ht⟩
        · subst h0
          simp only [bd_k, hb, ht] at e
          exact bd_w47 hJ hM hab hr H n (k + 1) s2 a3' a4' a5' a6' a7' a8' (by omega) hT' e
        · cases r2 with
          | zero => exact absurd rfl hn
          | succ e2 =>
            simp only [bd_k, hb, ht] at e
            cases e
            exact H h11 a3' a4' a5' a6' a7' a8' hT'
theorem bd_B0k : ∀ k, k < 10 → bd_g 4 bd_B0 k = k := by decide +kernel
theorem bd_ws2 {r : Nat} {s' : bd_Z} {f1 : Int32} {a6 a7 a8 : Nat → Int32} (hJ : bd_R 10 10 1024 nI a1 J) (hM : bd_R 10 4 11 bd_v a2 M) (hab : ab < 1024) (hr : root < 10) (e : bd_se J ab M root = some (r, s'))
    (H : r < 11 → ∀ a3' a4' a5' a6' a7' a8', bd_T s' a3' a4' a5' a8' → post (bd_v r) (nI ab, nI s'.1, a1, a2, a3', a4', a5', a6', a7', a8')) :
    ∀ n i a3 a4 a5, i + n = 10 → (∀ k, k < i → a3 k = 0) → (∀ k, k < i → a4 k = -1) → (∀ k, k < i → a5 k = nI k) → wX_search_2 post (nI root) (nI ab) f1 (n + 1) (nI i) a1 a2 a3 a4 a5 a6 a7 a8
  | 0, i, a3, a4, a5, hi, h3, h4, h5 => by
    obtain rfl : i = 10 := by omega
    refine br_t (nI_le (a := 10) (by omega) (by omega)) ?_
    cases hm : bd_mo (0, 0, 0, bd_B0, 0) root with
    | none =>
      simp only [bd_se, hm] at e
      exact absurd e (by simp)
    | some s2 =>
      simp only [bd_se, hm] at e
      refine bd_makeOuter (s := (0, 0, 0, bd_B0, 0)) hr ⟨bd_R_0 h3 (by decide) rfl, bd_R_0 h4 (by decide) bd_v0.symm, fun k hk => ?_, fun k hk => absurd hk (by omega), by decide⟩ hm (fun a3' a8' hT' => ?_)
      · rw [bd_B0k k hk]
        exact ⟨hk, h5 k hk⟩
      · exact ⟨11, bd_w47 hJ hM hab hr H 10 0 s2 a3' a4 a5 a6 a7 a8' rfl hT' e⟩
  | n + 1, i, a3, a4, a5, hi, h3, h4, h5 => by
    have h10 : i < 10 := by omega
    exact br_f (nI_ge (b := 10) (by omega) (by decide)) ⟨pk_in i 10 h10, nm_r (bd_uc h10) ⟨pk_in i 10 h10, nm_r (bd_uc h10) ⟨pk_in i 10 h10, nm_r (bd_uc h10) (nm_r (nI_1 i) (bd_ws2 hJ hM hab hr e H n (i + 1) _ _ _ (by omega) (bd_fill (f := fun _ => 0) h3 rfl) (bd_fill (f := fun _ => -1) h4 rfl) (bd_fill (f := nI) h5 rfl)))⟩⟩⟩
theorem bd_search {r : Nat} {s' : bd_Z} {f1 : Int32} {a3 a4 a5 a6 a7 a8 : Nat → Int32} (hJ : bd_R 10 10 1024 nI a1 J) (hM : bd_R 10 4 11 bd_v a2 M) (hab : ab < 1024) (hr : root < 10) (e : bd_se J ab M root = some (r, s'))
    (H : r < 11 → ∀ a3' a4' a5' a6' a7' a8', bd_T s' a3' a4' a5' a8' → post (bd_v r) (nI ab, nI s'.1, a1, a2, a3', a4', a5', a6', a7', a8')) : wpX_search post (nI ab, f1, a1, a2, a3, a4, a5, a6, a7, a8) (nI root) :=
  ⟨11, bd_ws2 hJ hM hab hr e H 10 0 a3 a4 a5 rfl (fun k hk => absurd hk (by omega)) (fun k hk => absurd hk (by omega)) (fun k hk => absurd hk (by omega))⟩
end
section
variable {post : St2 → Prop} {f0 f1 : Int32} {a1 a3 a4 a5 a6 a7 a8 : Nat → Int32} {F M' : Nat}
theorem bd_w4 (hF : bd_R 10 4 11 bd_v a4 F) (H : ∀ a2', bd_R 10 4 11 bd_v a2' M' → post (f0, f1, a1, a2', a3, a4, a5, a6, a7, a8)) :
    ∀ n i v M a2, i + n = 10 → v < 11 → bd_R 10 4 11 bd_v a2 M → bd_tu F n v M = some M' → wX_turn_4 post f0 f1 (n + 1) (bd_v v) (nI i) a1 a2 a3 a4 a5 a6 a7 a8
  | 0, i, v, M, a2, hi, hv, hM, e => by
    cases e
    exact br_t (nI_le (a := 10) (by omega) (by omega)) (H a2 hM)
  | n + 1, i, 0, M, a2, hi, hv, hM, e => by
    simp only [bd_tu] at e
    cases e
    exact br_f (nI_ge (b := 10) (by omega) (by decide)) (br_t (by decide) (H a2 hM))
  | n + 1, i, v + 1, M, a2, hi, hv, hM, e => by
    have v1 : v < 10 := by omega
    rw [bd_vs]
    cases hf : bd_g 4 F v with
    | zero =>
      simp only [bd_tu, hf] at e
      exact absurd e (by simp)
    | succ b =>
      simp only [bd_tu, hf] at e
      obtain ⟨b1, eb⟩ := bd_Rs hF v1 hf
      have em : a2 (nI b).toNatClampNeg = bd_v (bd_g 4 M b) := by
        rw [nI_clamp (by omega)]
        exact (hM b b1).2
      refine br_f (nI_ge (b := 10) (by omega) (by decide)) (br_f (nI_pos (by omega)) ⟨pk_in v 10 v1, nm_r eb ⟨pk_in b 10 b1, nm_r em ⟨pk_in v 10 v1, nm_r (bd_uc v1) ⟨pk_in b 10 b1, nm_r (bd_uc b1) (nm_r (nI_1 i) ?_)⟩⟩⟩⟩)
      exact bd_w4 hF H n (i + 1) _ _ _ (by omega) (hM b b1).1 (bd_R_u (bd_R_u hM (by omega) (by decide) (bd_vs b).symm) (by omega) (by decide) (bd_vs v).symm) e
theorem bd_turn {v M : Nat} {a2 : Nat → Int32} (hF : bd_R 10 4 11 bd_v a4 F) (hM : bd_R 10 4 11 bd_v a2 M) (hv : v < 11) (e : bd_tu F 10 v M = some M')
    (H : ∀ a2', bd_R 10 4 11 bd_v a2' M' → post (f0, f1, a1, a2', a3, a4, a5, a6, a7, a8)) : wpX_turn post (f0, f1, a1, a2, a3, a4, a5, a6, a7, a8) (bd_v v) :=
  ⟨11, bd_w4 hF H 10 0 v M a2 rfl hv hM e⟩
end
section
variable {post : Int32 → St2 → Prop} {a1 : Nat → Int32} {J ab : Nat}
theorem bd_w30 {l' M' : Nat} (hJ : bd_R 10 10 1024 nI a1 J) (hab : ab < 1024)
    (H : ∀ f1 a2' a3' a4' a5' a6' a7' a8', bd_R 10 4 11 bd_v a2' M' → post (nI l') (nI ab, f1, a1, a2', a3', a4', a5', a6', a7', a8')) :
    ∀ n p l M f1 a2 a3 a4 a5 a6 a7 a8, p + n = 10 → bd_R 10 4 11 bd_v a2 M → bd_pl J ab n p l M = some (l', M') → wX_pairWithout_30 post (n + 1) (nI l) (nI p) (nI ab) f1 a1 a2 a3 a4 a5 a6 a7 a8
  | 0, p, l, M, f1, a2, a3, a4, a5, a6, a7, a8, hp, hM, e => by
    cases e
    exact br_t (nI_le (a := 10) (by omega) (by omega)) (H f1 a2 a3 a4 a5 a6 a7 a8 hM)
  | n + 1, p, l, M, f1, a2, a3, a4, a5, a6, a7, a8, hp, hM, e => by
    have h10 : p < 10 := by omega
    refine br_f (nI_ge (b := 10) (by omega) (by decide)) ⟨pk_in p 10 h10, ?_⟩
    cases hm : bd_g 4 M p with
    | succ m =>
      simp only [bd_pl, hm] at e
      obtain ⟨m1, em⟩ := bd_Rs hM h10 hm
      exact br_t (by rw [em]; exact nI_pos' (by omega)) (nm_r (nI_1 p) (bd_w30 hJ hab H n (p + 1) l M f1 a2 a3 a4 a5 a6 a7 a8 (by omega) hM e))
    | zero =>
      refine br_f (by rw [bd_Rz hM h10 hm]; decide) ?_
      cases ha : bd_g 1 ab p with
      | succ m =>
        simp only [bd_pl, hm, ha] at e
        exact br_f (bd_bit1 (by omega) (by omega) ha) (nm_r (nI_1 p) (bd_w30 hJ hab H n (p + 1) l M f1 a2 a3 a4 a5 a6 a7 a8 (by omega) hM e))
      | zero =>
        refine br_t (bd_bit0 (by omega) (by omega) ha) ?_
        cases hs : bd_se J ab M p with
        | none =>
          simp only [bd_pl, hm, ha, hs] at e
          exact absurd e (by simp)
        | some rs =>
          obtain ⟨r, qe, O, F, B, Q⟩ := rs
          refine bd_search hJ hM hab h10 hs (fun hr a3' a4' a5' a6' a7' a8' hT' => ?_)
          cases r with
          | zero =>
            simp only [bd_pl, hm, ha, hs] at e
            exact br_t (by decide) (nm_r (nI_1 p) (bd_w30 hJ hab H n (p + 1) l M _ a2 a3' a4' a5' a6' a7' a8' (by omega) hM e))
          | succ r =>
            cases ht : bd_tu F 10 (r + 1) M with
            | none =>
              simp only [bd_pl, hm, ha, hs, ht] at e
              exact absurd e (by simp)
            | some M2 =>
              simp only [bd_pl, hm, ha, hs, ht] at e
              refine br_f (by rw [bd_vs]; exact nI_pos (by omega)) ?_
              exact bd_turn hT'.2.1 hM hr ht (fun a2' hM' => nm_r (nI_1 l) (nm_r (nI_1 p) (bd_w30 hJ hab H n (p + 1) (l + 1) M2 _ a2' a3' a4' a5' a6' a7' a8' (by omega) hM' e)))
theorem bd_wp7 {l' M' : Nat} {f1 : Int32} {a3 a4 a5 a6 a7 a8 : Nat → Int32} (hJ : bd_R 10 10 1024 nI a1 J) (hab : ab < 1024) (e : bd_pw J ab = some (l', M'))
    (H : ∀ f1 a2' a3' a4' a5' a6' a7' a8', bd_R 10 4 11 bd_v a2' M' → post (nI l') (nI ab, f1, a1, a2', a3', a4', a5', a6', a7', a8')) :
    ∀ n i a2, i + n = 10 → (∀ k, k < i → a2 k = -1) → wX_pairWithout_7 post (nI ab) f1 (n + 1) (nI i) a1 a2 a3 a4 a5 a6 a7 a8
  | 0, i, a2, hi, h2 => by
    obtain rfl : i = 10 := by omega
    exact br_t (nI_le (a := 10) (by omega) (by omega)) ⟨11, bd_w30 hJ hab H 10 0 0 0 f1 a2 a3 a4 a5 a6 a7 a8 rfl (bd_R_0 h2 (by decide) bd_v0.symm) e⟩
  | n + 1, i, a2, hi, h2 => by
    exact br_f (nI_ge (b := 10) (by omega) (by decide)) ⟨pk_in i 10 (by omega), nm_r (bd_uc (by omega)) (nm_r (nI_1 i) (bd_wp7 hJ hab e H n (i + 1) _ (by omega) (bd_fill (f := fun _ => -1) h2 rfl)))⟩
theorem bd_pairW {l' M' : Nat} {f0 f1 : Int32} {a2 a3 a4 a5 a6 a7 a8 : Nat → Int32} (hJ : bd_R 10 10 1024 nI a1 J) (hab : ab < 1024) (e : bd_pw J ab = some (l', M'))
    (H : ∀ f1 a2' a3' a4' a5' a6' a7' a8', bd_R 10 4 11 bd_v a2' M' → post (nI l') (nI ab, f1, a1, a2', a3', a4', a5', a6', a7', a8')) : wpX_pairWithout post (f0, f1, a1, a2, a3, a4, a5, a6, a7, a8) (nI ab) :=
  ⟨11, bd_wp7 hJ hab e H 10 0 a2 rfl (fun k hk => absurd hk (by omega))⟩
theorem bd_w27 {J4 : Int32 → Int32 → Int32 → Int32 → (Nat → Int32) → (Nat → Int32) → (Nat → Int32) → (Nat → Int32) → (Nat → Int32) → (Nat → Int32) → (Nat → Int32) → (Nat → Int32) → Prop} {f0 f1 : Int32} {a2 a3 a4 a5 a6 a7 a8 : Nat → Int32} {O p S' : Nat}
    (hO : bd_R 10 1 2 nI a3 O) (H : J4 (nI S') (nI (p + 1)) f0 f1 a1 a2 a3 a4 a5 a6 a7 a8) :
    ∀ n i S, i + n = 10 → bd_oi O n i S = S' → wX_spares_27 post J4 (nI p) f0 f1 a1 a2 a3 a4 a5 a6 a7 a8 (n + 1) (nI S) (nI i)
  | 0, i, S, hi, e => by
    cases e
    exact br_t (nI_le (a := 10) (by omega) (by omega)) (nm_r (nI_1 p) H)
  | n + 1, i, S, hi, e => by
    have h10 : i < 10 := by omega
    refine br_f (nI_ge (b := 10) (by omega) (by decide)) ⟨pk_in i 10 h10, ?_⟩
    cases hb : bd_g 1 O i with
    | zero =>
      simp only [bd_oi, hb] at e
      exact br_t (bd_b0 hO h10 hb) (nm_r (bd_or0 S) (nm_r (nI_1 i) (bd_w27 hO H n (i + 1) S (by omega) e)))
    | succ m =>
      simp only [bd_oi, hb] at e
      exact br_f (bd_b1 hO h10 hb) (nm_r (by rw [bd_shl1 i h10]; exact bd_orN S _) (nm_r (nI_1 i) (bd_w27 hO H n (i + 1) _ (by omega) e)))
theorem bd_w4s {M S' : Nat} (hJ : bd_R 10 10 1024 nI a1 J) {a2 : Nat → Int32} (hM : bd_R 10 4 11 bd_v a2 M)
    (H : ∀ f1 a3' a4' a5' a6' a7' a8', post (nI S') (nI 0, f1, a1, a2, a3', a4', a5', a6', a7', a8')) :
    ∀ n p S f1 a3 a4 a5 a6 a7 a8, p + n = 10 → bd_sp J M n p S = some S' → wX_spares_4 post (n + 1) (nI S) (nI p) (nI 0) f1 a1 a2 a3 a4 a5 a6 a7 a8
  | 0, p, S, f1, a3, a4, a5, a6, a7, a8, hp, e => by
    cases e
    exact br_t (nI_le (a := 10) (by omega) (by omega)) (H f1 a3 a4 a5 a6 a7 a8)
  | n + 1, p, S, f1, a3, a4, a5, a6, a7, a8, hp, e => by
    have h10 : p < 10 := by omega
    refine br_f (nI_ge (b := 10) (by omega) (by decide)) ⟨pk_in p 10 h10, ?_⟩
    cases hm : bd_g 4 M p with
    | succ m =>
      simp only [bd_sp, hm] at e
      obtain ⟨m1, em⟩ := bd_Rs hM h10 hm
      exact br_t (by rw [em]; exact nI_pos' (by omega)) (nm_r (nI_1 p) (bd_w4s hJ hM H n (p + 1) S f1 a3 a4 a5 a6 a7 a8 (by omega) e))
    | zero =>
      refine br_f (by rw [bd_Rz hM h10 hm]; decide) ?_
      cases hs : bd_se J 0 M p with
      | none =>
        simp only [bd_sp, hm, hs] at e
        exact absurd e (by simp)
      | some rs =>
        obtain ⟨r, qe, O, F, B, Q⟩ := rs
        simp only [bd_sp, hm, hs] at e
        refine bd_search hJ hM (by decide) h10 hs (fun hr a3' a4' a5' a6' a7' a8' hT' => ?_)
        exact ⟨11, bd_w27 hT'.1 (bd_w4s hJ hM H n (p + 1) _ _ a3' a4' a5' a6' a7' a8' (by omega) e) 10 0 S rfl rfl⟩
theorem bd_spares {M S' : Nat} {f1 : Int32} {a2 a3 a4 a5 a6 a7 a8 : Nat → Int32} (hJ : bd_R 10 10 1024 nI a1 J) (hM : bd_R 10 4 11 bd_v a2 M) (e : bd_sp J M 10 0 0 = some S')
    (H : ∀ f1 a3' a4' a5' a6' a7' a8', post (nI S') (nI 0, f1, a1, a2, a3', a4', a5', a6', a7', a8')) : wpX_spares post (nI 0, f1, a1, a2, a3, a4, a5, a6, a7, a8) :=
  ⟨11, bd_w4s hJ hM H 10 0 0 f1 a3 a4 a5 a6 a7 a8 rfl e⟩
end
end
section
/-! ===== the class's public methods: any state whose lines are J ===== -/
theorem bd_pv_e {J ab l : Nat} (e : bd_pv J ab = some l) : l < 1024 ∧ ∃ M, bd_pw J ab = some (l, M) := by
  cases h : bd_pw J ab with
  | none =>
    simp only [bd_pv, h] at e
    exact absurd e (by simp)
  | some lm =>
    obtain ⟨l2, M⟩ := lm
    cases hb : Nat.ble 1024 l2 with
    | true =>
      simp only [bd_pv, h, hb] at e
      exact absurd e (by simp)
    | false =>
      simp only [bd_pv, h, hb] at e
      cases e
      exact ⟨bd_nble hb, M, rfl⟩
theorem bd_ps_e {J S : Nat} (e : bd_ps J = some S) : S < 1024 ∧ ∃ l M, bd_pw J 0 = some (l, M) ∧ bd_sp J M 10 0 0 = some S := by
  cases h : bd_pw J 0 with
  | none =>
    simp only [bd_ps, h] at e
    exact absurd e (by simp)
  | some lm =>
    obtain ⟨l2, M⟩ := lm
    cases h2 : bd_sp J M 10 0 0 with
    | none =>
      simp only [bd_ps, h, h2] at e
      exact absurd e (by simp)
    | some S2 =>
      cases hb : Nat.ble 1024 S2 with
      | true =>
        simp only [bd_ps, h, h2, hb] at e
        exact absurd e (by simp)
      | false =>
        simp only [bd_ps, h, h2, hb] at e
        cases e
        exact ⟨bd_nble hb, l2, M, rfl, h2⟩
theorem bd_wo_lt {a b : Nat} (h : a < 1024) : bd_wo a b < 1024 :=
  Nat.xor_lt_two_pow (n := 10) h (Nat.lt_of_le_of_lt Nat.and_le_left h)
theorem bd_or_lt {a b : Nat} (h : a < 1024) (h' : b < 1024) : Nat.lor a b < 1024 := Nat.or_lt_two_pow (n := 10) h h'
theorem bd_sl_lt : ∀ p, p < 10 → Nat.shiftLeft 1 p < 1024 := by decide +kernel
theorem bd_isPair {post : Int32 → Prop} {a b : Nat} (ha : a < 10) (hb : b < 10) (hn : a ≠ b) (H : post 1) : wpX_isPair post () (nI a) (nI b) :=
  br_f (nI_pos (by omega)) (br_f (nI_nlt (b := a) (a := 9) (by omega) (by decide)) (br_f (nI_pos (by omega)) (br_f (nI_nlt (b := b) (a := 9) (by omega) (by decide)) (br_f (by rw [nI_eq (by omega) (by omega)]; exact hn) H))))
theorem bd_isPairN {post : Int32 → Prop} {p q : Int32} (h : p < 0 ∨ 9 < p ∨ q < 0 ∨ 9 < q ∨ p = q) (H : post 0) : wpX_isPair post () p q :=
  br_c (fun _ => H) (fun h1 => br_c (fun _ => H) (fun h2 => br_c (fun _ => H) (fun h3 => br_c (fun _ => H) (fun h4 => br_c (fun _ => H) (fun h5 => absurd h (by simp only [h1, h2, h3, h4, h5, or_self, not_false_eq_true]))))))
section
variable {post : Int32 → St2 → Prop} {f0 f1 : Int32} {a1 a2 a3 a4 a5 a6 a7 a8 : Nat → Int32} {J : Nat}
theorem bd_pairV {ab l : Nat} (hJ : bd_R 10 10 1024 nI a1 J) (hab : ab < 1024) (e : bd_pv J ab = some l)
    (H : ∀ f0 f1 a2 a3 a4 a5 a6 a7 a8, post (nI l) (f0, f1, a1, a2, a3, a4, a5, a6, a7, a8)) : wpX_pairWithout post (f0, f1, a1, a2, a3, a4, a5, a6, a7, a8) (nI ab) := by
  obtain ⟨_, M, e'⟩ := bd_pv_e e
  exact bd_pairW hJ hab e' (fun f1 a2' a3' a4' a5' a6' a7' a8' _ => H _ f1 a2' a3' a4' a5' a6' a7' a8')
theorem bd_most {l : Nat} (hJ : bd_R 10 10 1024 nI a1 J) (e : bd_pv J 0 = some l)
    (H : ∀ f0 f1 a2 a3 a4 a5 a6 a7 a8, post (nI l) (f0, f1, a1, a2, a3, a4, a5, a6, a7, a8)) : wpX_most post (f0, f1, a1, a2, a3, a4, a5, a6, a7, a8) :=
  bd_pairV (f0 := f0) (ab := 0) hJ (by decide) e (fun f0 f1 a2 a3 a4 a5 a6 a7 a8 => H f0 f1 a2 a3 a4 a5 a6 a7 a8)
theorem bd_mostW {x : Int32} {S l : Nat} (hJ : bd_R 10 10 1024 nI a1 J) (hx : x &&& 1023 = nI S) (hS : S < 1024) (e : bd_pv J S = some l)
    (H : ∀ f0 f1 a2 a3 a4 a5 a6 a7 a8, post (nI l) (f0, f1, a1, a2, a3, a4, a5, a6, a7, a8)) : wpX_mostWithout post (f0, f1, a1, a2, a3, a4, a5, a6, a7, a8) x := by
  unfold wpX_mostWithout
  dsimp only
  rw [hx]
  exact bd_pairV hJ hS e (fun f0 f1 a2 a3 a4 a5 a6 a7 a8 => H f0 f1 a2 a3 a4 a5 a6 a7 a8)
theorem bd_pairS {ψ : Int32 → St2 → Prop} {S : Nat} (hJ : bd_R 10 10 1024 nI a1 J) (e : bd_ps J = some S)
    (Hp : ∀ r f1 a2 a3 a4 a5 a6 a7 a8, wpX_spares post (nI 0, f1, a1, a2, a3, a4, a5, a6, a7, a8) → ψ r (nI 0, f1, a1, a2, a3, a4, a5, a6, a7, a8))
    (H : ∀ f0 f1 a2 a3 a4 a5 a6 a7 a8, post (nI S) (f0, f1, a1, a2, a3, a4, a5, a6, a7, a8)) : wpX_pairWithout ψ (f0, f1, a1, a2, a3, a4, a5, a6, a7, a8) 0 := by
  obtain ⟨_, l, M, e1, e2⟩ := bd_ps_e e
  exact bd_pairW (ab := 0) hJ (by decide) e1 (fun f1 a2' a3' a4' a5' a6' a7' a8' hM => Hp _ f1 a2' a3' a4' a5' a6' a7' a8' (bd_spares hJ hM e2 (fun f1 a3 a4 a5 a6 a7 a8 => H _ f1 a2' a3 a4 a5 a6 a7 a8)))
theorem bd_spare {a S : Nat} (hJ : bd_R 10 10 1024 nI a1 J) (ha : a < 10) (e : bd_ps J = some S)
    (H : ∀ f0 f1 a2 a3 a4 a5 a6 a7 a8, post (nI (bd_g 1 S a)) (f0, f1, a1, a2, a3, a4, a5, a6, a7, a8)) : wpX_spare post (f0, f1, a1, a2, a3, a4, a5, a6, a7, a8) (nI a) := by
  have hS := (bd_ps_e e).1
  refine br_f (nI_pos (by omega)) (br_t (nI_le (b := 9) (by omega) (by decide)) ?_)
  refine bd_pairS hJ e (fun r f1 a2 a3 a4 a5 a6 a7 a8 h => h) (fun f0 f1 a2 a3 a4 a5 a6 a7 a8 => ?_)
  show post (((nI S).toUInt32 >>> ((nI a).toUInt32 &&& Int32.toUInt32 31)).toInt32 &&& 1) (f0, f1, a1, a2, a3, a4, a5, a6, a7, a8)
  rw [bd_bitI (by omega) (by omega)]
  exact H f0 f1 a2 a3 a4 a5 a6 a7 a8
theorem bd_spareN {x : Int32} (h : x < 0 ∨ ¬ x ≤ 9) (H : post (-1) (f0, f1, a1, a2, a3, a4, a5, a6, a7, a8)) : wpX_spare post (f0, f1, a1, a2, a3, a4, a5, a6, a7, a8) x :=
  br_c (fun _ => H) (fun h1 => br_f (h.resolve_left h1) H)
theorem bd_w15 {S T' : Nat} (hJ : bd_R 10 10 1024 nI a1 J) (hS : S < 1024) (H : post (nI (bd_wo T' S)) (f0, f1, a1, a2, a3, a4, a5, a6, a7, a8)) :
    ∀ n p T, p + n = 10 → bd_gl J S n p T = T' → wX_guards_15 post (nI S) f0 f1 a1 a2 a3 a4 a5 a6 a7 a8 (n + 1) (nI T) (nI p)
  | 0, p, T, hp, e => by
    cases e
    rw [← bd_woI] at H
    exact br_t (nI_le (a := 10) (by omega) (by omega)) H
  | n + 1, p, T, hp, e => by
    have h10 : p < 10 := by omega
    refine br_f (nI_ge (b := 10) (by omega) (by decide)) ?_
    cases hb : bd_g 1 S p with
    | zero =>
      simp only [bd_gl, hb] at e
      exact br_t (bd_bit0 (by omega) (by omega) hb) (nm_r (bd_or0 T) (nm_r (nI_1 p) (bd_w15 hJ hS H n (p + 1) T (by omega) e)))
    | succ m =>
      simp only [bd_gl, hb] at e
      exact br_f (bd_bit1 (by omega) (by omega) hb) ⟨pk_in p 10 h10, nm_r (by rw [(bd_Rn hJ h10 (by omega)).2]; exact bd_orN T _) (nm_r (nI_1 p) (bd_w15 hJ hS H n (p + 1) _ (by omega) e))⟩
theorem bd_guards {G : Nat} (hJ : bd_R 10 10 1024 nI a1 J) (e : bd_gu J = some G)
    (H : ∀ f0 f1 a2 a3 a4 a5 a6 a7 a8, post (nI G) (f0, f1, a1, a2, a3, a4, a5, a6, a7, a8)) : wpX_guards post (f0, f1, a1, a2, a3, a4, a5, a6, a7, a8) := by
  cases hs : bd_ps J with
  | none =>
    simp only [bd_gu, hs] at e
    exact absurd e (by simp)
  | some S =>
    simp only [bd_gu, hs] at e
    cases e
    exact bd_pairS (f0 := f0) hJ hs (fun r f1 a2 a3 a4 a5 a6 a7 a8 h => h) (fun f0 f1 a2 a3 a4 a5 a6 a7 a8 => ⟨11, bd_w15 hJ (bd_ps_e hs).1 (H f0 f1 a2 a3 a4 a5 a6 a7 a8) 10 0 0 rfl rfl⟩)
end
section
variable {post : Int32 → Prop} {f0 f1 : Int32} {a1 a2 a3 a4 a5 a6 a7 a8 : Nat → Int32} {J : Nat}
theorem bd_w17 {J7 : Int32 → Int32 → Prop} {W P' c : Nat} (hJ : bd_R 10 10 1024 nI a1 J) (hW : W < 1024) (H : P' < 1024 → J7 (nI P') (nI (c + 1))) :
    ∀ n p P, p + n = 10 → P < 1024 → bd_pi J W n p P = P' → wX_partOf_17 post J7 (nI W) (nI c) f0 f1 a1 a2 a3 a4 a5 a6 a7 a8 (n + 1) (nI P) (nI p)
  | 0, p, P, hp, hP, e => by
    cases e
    exact br_t (nI_le (a := 10) (by omega) (by omega)) (nm_r (nI_1 c) (H hP))
  | n + 1, p, P, hp, hP, e => by
    have h10 : p < 10 := by omega
    refine br_f (nI_ge (b := 10) (by omega) (by decide)) ?_
    cases hb : bd_g 1 P p with
    | zero =>
      simp only [bd_pi, hb] at e
      exact br_t (bd_bit0 (by omega) (by omega) hb) (nm_r (bd_or0 P) (nm_r (nI_1 p) (bd_w17 hJ hW H n (p + 1) P (by omega) hP e)))
    | succ m =>
      simp only [bd_pi, hb] at e
      exact br_f (bd_bit1 (by omega) (by omega) hb) ⟨pk_in p 10 h10, nm_r (by rw [(bd_Rn hJ h10 (by omega)).2, bd_andN]; exact bd_orN P _) (nm_r (nI_1 p) (bd_w17 hJ hW H n (p + 1) _ (by omega) (bd_or_lt hP (Nat.lt_of_le_of_lt Nat.and_le_right hW)) e))⟩
theorem bd_w7o {W P' : Nat} (hJ : bd_R 10 10 1024 nI a1 J) (hW : W < 1024) (H : P' < 1024 → post (nI P')) :
    ∀ n c P, c + n = 10 → P < 1024 → bd_pr J W n P = P' → wX_partOf_7 post (nI W) f0 f1 a1 a2 a3 a4 a5 a6 a7 a8 (n + 1) (nI P) (nI c)
  | 0, c, P, hc, hP, e => by
    cases e
    exact br_t (nI_le (a := 10) (by omega) (by omega)) (H hP)
  | n + 1, c, P, hc, hP, e => by
    simp only [bd_pr] at e
    exact br_f (nI_ge (b := 10) (by omega) (by decide)) ⟨11, bd_w17 hJ hW (fun hP2 => bd_w7o hJ hW H n (c + 1) _ (by omega) hP2 e) 10 0 P rfl hP rfl⟩
theorem bd_partOf {W p : Nat} (hJ : bd_R 10 10 1024 nI a1 J) (hW : W < 1024) (hp : p < 10) (H : post (nI (bd_pr J W 10 (Nat.shiftLeft 1 p)))) : wpX_partOf post (f0, f1, a1, a2, a3, a4, a5, a6, a7, a8) (nI p) (nI W) :=
  nm_r (bd_shl1 p hp) ⟨11, bd_w7o hJ hW (fun _ => H) 10 0 _ rfl (bd_sl_lt p hp) rfl⟩
end
section
variable {post : Int32 → St2 → Prop} {f0 f1 : Int32} {a1 a2 a3 a4 a5 a6 a7 a8 : Nat → Int32} {J : Nat}
theorem bd_wp15 {c' : Nat} (hJ : bd_R 10 10 1024 nI a1 J) (H : post (nI c') (f0, f1, a1, a2, a3, a4, a5, a6, a7, a8)) :
    ∀ n p W c, p + n = 10 → W < 1024 → bd_pa J n p W c = c' → wX_parts_15 post f0 f1 a1 a2 a3 a4 a5 a6 a7 a8 (n + 1) (nI W) (nI c) (nI p)
  | 0, p, W, c, hp, hW, e => by
    cases e
    exact br_t (nI_le (a := 10) (by omega) (by omega)) H
  | n + 1, p, W, c, hp, hW, e => by
    have h10 : p < 10 := by omega
    refine br_f (nI_ge (b := 10) (by omega) (by decide)) ?_
    cases hb : bd_g 1 W p with
    | zero =>
      simp only [bd_pa, hb] at e
      exact br_t (bd_bit0 (by omega) (by omega) hb) (nm_r (nI_1 p) (bd_wp15 hJ H n (p + 1) W c (by omega) hW e))
    | succ m =>
      simp only [bd_pa, hb] at e
      exact br_f (bd_bit1 (by omega) (by omega) hb) (nm_r (nI_1 c) (bd_partOf hJ hW h10 (nm_r (bd_woI W _) (nm_r (nI_1 p) (bd_wp15 hJ H n (p + 1) _ (c + 1) (by omega) (bd_wo_lt hW) e)))))
theorem bd_parts {c : Nat} (hJ : bd_R 10 10 1024 nI a1 J) (e : bd_pt J = some c)
    (H : ∀ f0 f1 a2 a3 a4 a5 a6 a7 a8, post (nI c) (f0, f1, a1, a2, a3, a4, a5, a6, a7, a8)) : wpX_parts post (f0, f1, a1, a2, a3, a4, a5, a6, a7, a8) := by
  cases hg : bd_gu J with
  | none =>
    simp only [bd_pt, hg] at e
    exact absurd e (by simp)
  | some G =>
    simp only [bd_pt, hg] at e
    cases e
    exact bd_guards (f0 := f0) hJ hg (fun f0 f1 a2 a3 a4 a5 a6 a7 a8 => nm_r (bd_woI 1023 G) ⟨11, bd_wp15 hJ (H f0 f1 a2 a3 a4 a5 a6 a7 a8) 10 0 _ 0 rfl (bd_wo_lt (by decide)) rfl⟩)
theorem bd_j24 {a b : Nat} {z : Int32} (hJ : bd_R 10 10 1024 nI a1 J) (ha : a < 10) (hb : b < 10)
    (H : ∀ a1', bd_R 10 10 1024 nI a1' (bd_jn J a b) → post z (f0, f1, a1', a2, a3, a4, a5, a6, a7, a8)) : wX_join_24 post (nI a) (nI b) z f0 f1 a1 a2 a3 a4 a5 a6 a7 a8 := by
  have h1 : bd_R 10 10 1024 nI (upd a1 a (nI (Nat.lor (bd_g 10 J a) (Nat.shiftLeft 1 b)))) (bd_s 10 J a (Nat.lor (bd_g 10 J a) (Nat.shiftLeft 1 b))) :=
    bd_R_u hJ (bd_or_lt (hJ a ha).1 (bd_sl_lt b hb)) (by decide) rfl
  refine ⟨pk_in a 10 ha, pk_in a 10 ha, nm_r (e' := upd a1 a (nI (Nat.lor (bd_g 10 J a) (Nat.shiftLeft 1 b)))) (by rw [(bd_Rn hJ ha (by omega)).2, bd_shl1 b hb, bd_orN, nI_clamp (by omega)]) ⟨pk_in b 10 hb, pk_in b 10 hb, ?_⟩⟩
  refine nm_r (by rw [(bd_Rn h1 hb (by omega)).2, bd_shl1 a ha, bd_orN, nI_clamp (by omega)]) (H _ ?_)
  exact bd_R_u h1 (bd_or_lt (h1 b hb).1 (bd_sl_lt a ha)) (by decide) rfl
theorem bd_p24 {a b : Nat} {z : Int32} (hJ : bd_R 10 10 1024 nI a1 J) (ha : a < 10) (hb : b < 10)
    (H : ∀ a1', bd_R 10 10 1024 nI a1' (bd_un J a b) → post z (f0, f1, a1', a2, a3, a4, a5, a6, a7, a8)) : wX_part_24 post (nI a) (nI b) z f0 f1 a1 a2 a3 a4 a5 a6 a7 a8 := by
  have h1 : bd_R 10 10 1024 nI (upd a1 a (nI (bd_wo (bd_g 10 J a) (Nat.shiftLeft 1 b)))) (bd_s 10 J a (bd_wo (bd_g 10 J a) (Nat.shiftLeft 1 b))) :=
    bd_R_u hJ (bd_wo_lt (hJ a ha).1) (by decide) rfl
  refine ⟨pk_in a 10 ha, pk_in a 10 ha, nm_r (e' := upd a1 a (nI (bd_wo (bd_g 10 J a) (Nat.shiftLeft 1 b)))) (by rw [(bd_Rn hJ ha (by omega)).2, bd_shl1 b hb, bd_woI, nI_clamp (by omega)]) ⟨pk_in b 10 hb, pk_in b 10 hb, ?_⟩⟩
  refine nm_r (by rw [(bd_Rn h1 hb (by omega)).2, bd_shl1 a ha, bd_woI, nI_clamp (by omega)]) (H _ ?_)
  exact bd_R_u h1 (bd_wo_lt (h1 b hb).1) (by decide) rfl
theorem bd_join {a b : Nat} (hJ : bd_R 10 10 1024 nI a1 J) (ha : a < 10) (hb : b < 10) (hn : a ≠ b)
    (H0 : bd_g 1 (bd_g 10 J a) b = 0 → ∀ a1', bd_R 10 10 1024 nI a1' (bd_jn J a b) → post 1 (f0, f1, a1', a2, a3, a4, a5, a6, a7, a8))
    (H1 : bd_g 1 (bd_g 10 J a) b = 1 → ∀ a1', bd_R 10 10 1024 nI a1' (bd_jn J a b) → post 0 (f0, f1, a1', a2, a3, a4, a5, a6, a7, a8)) : wpX_join post (f0, f1, a1, a2, a3, a4, a5, a6, a7, a8) (nI a) (nI b) := by
  unfold wpX_join
  dsimp only
  refine bd_isPair ha hb hn ?_
  refine br_f (by decide) (bd_isLine hJ ha hb ?_)
  rcases bd_01 (bd_g 10 J a) b with h | h
  · rw [h]
    exact br_t rfl (bd_j24 hJ ha hb (H0 h))
  · rw [h]
    exact br_f (by decide) (bd_j24 hJ ha hb (H1 h))
theorem bd_part {a b : Nat} (hJ : bd_R 10 10 1024 nI a1 J) (ha : a < 10) (hb : b < 10) (hn : a ≠ b)
    (H : ∀ a1', bd_R 10 10 1024 nI a1' (bd_un J a b) → post (nI (bd_g 1 (bd_g 10 J a) b)) (f0, f1, a1', a2, a3, a4, a5, a6, a7, a8)) : wpX_part post (f0, f1, a1, a2, a3, a4, a5, a6, a7, a8) (nI a) (nI b) := by
  unfold wpX_part
  dsimp only
  refine bd_isPair ha hb hn ?_
  refine br_f (by decide) (bd_isLine hJ ha hb ?_)
  rcases bd_01 (bd_g 10 J a) b with h | h
  · rw [h] at H ⊢
    exact br_t rfl (bd_p24 hJ ha hb H)
  · rw [h] at H ⊢
    exact br_f (by decide) (bd_p24 hJ ha hb H)
/-- a fresh line -/
theorem bd_join1 {a b J' : Nat} (hJ : bd_R 10 10 1024 nI a1 J) (e : bd_jc J a b = some J')
    (H : ∀ a1', bd_R 10 10 1024 nI a1' J' → post 1 (f0, f1, a1', a2, a3, a4, a5, a6, a7, a8)) : wpX_join post (f0, f1, a1, a2, a3, a4, a5, a6, a7, a8) (nI a) (nI b) := by
  cases q1 : Nat.ble 10 a with
  | true =>
    simp only [bd_jc, q1] at e
    exact absurd e (by simp)
  | false =>
    cases q2 : Nat.ble 10 b with
    | true =>
      simp only [bd_jc, q1, q2] at e
      exact absurd e (by simp)
    | false =>
      cases q3 : Nat.beq a b with
      | true =>
        simp only [bd_jc, q1, q2, q3] at e
        exact absurd e (by simp)
      | false =>
        cases q4 : bd_g 1 (bd_g 10 J a) b with
        | succ m =>
          simp only [bd_jc, q1, q2, q3, q4] at e
          exact absurd e (by simp)
        | zero =>
          simp only [bd_jc, q1, q2, q3, q4] at e
          cases e
          exact bd_join hJ (bd_nble q1) (bd_nble q2) (Nat.ne_of_beq_eq_false q3) (fun _ => H) (fun h => absurd (q4.symm.trans h) (by decide))
theorem bd_usable {a b r : Nat} (hJ : bd_R 10 10 1024 nI a1 J) (ha : a < 10) (hb : b < 10) (hn : a ≠ b) (e : bd_us J a b = some r)
    (H : ∀ f0 f1 a2 a3 a4 a5 a6 a7 a8, post (nI r) (f0, f1, a1, a2, a3, a4, a5, a6, a7, a8)) : wpX_usable post (f0, f1, a1, a2, a3, a4, a5, a6, a7, a8) (nI a) (nI b) := by
  unfold wpX_usable
  dsimp only
  refine bd_isPair ha hb hn ?_
  refine br_f (by decide) ?_
  cases h1 : bd_pv J 0 with
  | none =>
    simp only [bd_us, h1] at e
    exact absurd e (by simp)
  | some l =>
    cases h2 : bd_pv J (Nat.lor (Nat.shiftLeft 1 a) (Nat.shiftLeft 1 b)) with
    | none =>
      simp only [bd_us, h1, h2] at e
      exact absurd e (by simp)
    | some o =>
      have hl := (bd_pv_e h1).1
      have ho := (bd_pv_e h2).1
      refine bd_pairV (ab := 0) hJ (by decide) h1 (fun f0 f1 a2 a3 a4 a5 a6 a7 a8 => ?_)
      dsimp only
      rw [bd_shl1 a ha, bd_shl1 b hb, bd_orN]
      refine bd_pairV hJ (bd_or_lt (bd_sl_lt a ha) (bd_sl_lt b hb)) h2 (fun f0 f1 a2 a3 a4 a5 a6 a7 a8 => ?_)
      refine bd_isLine hJ ha hb ?_
      have hl2 := bd_g_lt 1 (bd_g 10 J a) b
      cases hb1 : bd_g 1 (bd_g 10 J a) b with
      | zero =>
        simp only [bd_us, h1, h2, hb1] at e
        cases e
        exact br_t rfl (H f0 f1 a2 a3 a4 a5 a6 a7 a8)
      | succ m =>
        refine br_f (nI_ne0 (by omega) (by omega)) ?_
        cases q : Nat.beq (o + 1) l with
        | true =>
          simp only [bd_us, h1, h2, hb1, q] at e
          cases e
          exact br_t (by rw [← Nat.eq_of_beq_eq_true q, nI_pred]) (H f0 f1 a2 a3 a4 a5 a6 a7 a8)
        | false =>
          simp only [bd_us, h1, h2, hb1, q] at e
          cases e
          refine br_f ?_ (H f0 f1 a2 a3 a4 a5 a6 a7 a8)
          have hne := Nat.ne_of_beq_eq_false q
          cases l with
          | zero =>
            intro hh
            have hp := nI_pos (n := o) (by omega)
            rw [hh] at hp
            exact hp (by decide)
          | succ l =>
            rw [nI_pred, nI_eq (by omega) (by omega)]
            omega
theorem bd_usableN {p q : Int32} (h : p < 0 ∨ 9 < p ∨ q < 0 ∨ 9 < q ∨ p = q) (H : post (-1) (f0, f1, a1, a2, a3, a4, a5, a6, a7, a8)) : wpX_usable post (f0, f1, a1, a2, a3, a4, a5, a6, a7, a8) p q := by
  unfold wpX_usable
  dsimp only
  refine bd_isPairN h ?_
  exact br_t rfl H
theorem bd_neededN {p q : Int32} (h : p < 0 ∨ 9 < p ∨ q < 0 ∨ 9 < q ∨ p = q) (H : post (-1) (f0, f1, a1, a2, a3, a4, a5, a6, a7, a8)) : wpX_needed post (f0, f1, a1, a2, a3, a4, a5, a6, a7, a8) p q := by
  unfold wpX_needed
  dsimp only
  refine bd_isPairN h ?_
  exact br_t rfl H
theorem bd_joinN {p q : Int32} (h : p < 0 ∨ 9 < p ∨ q < 0 ∨ 9 < q ∨ p = q) (H : post (-1) (f0, f1, a1, a2, a3, a4, a5, a6, a7, a8)) : wpX_join post (f0, f1, a1, a2, a3, a4, a5, a6, a7, a8) p q := by
  unfold wpX_join
  dsimp only
  refine bd_isPairN h ?_
  exact br_t rfl H
theorem bd_partN {p q : Int32} (h : p < 0 ∨ 9 < p ∨ q < 0 ∨ 9 < q ∨ p = q) (H : post (-1) (f0, f1, a1, a2, a3, a4, a5, a6, a7, a8)) : wpX_part post (f0, f1, a1, a2, a3, a4, a5, a6, a7, a8) p q := by
  unfold wpX_part
  dsimp only
  refine bd_isPairN h ?_
  exact br_t rfl H
theorem bd_n44 {l o r : Nat} (hl : l < 1024) (ho : o < 1024) (e : (match Nat.ble l o with | true => 0 | false => 1) = r) (H : post (nI r) (f0, f1, a1, a2, a3, a4, a5, a6, a7, a8)) : wX_needed_44 post (nI l) (nI o) f0 f1 a1 a2 a3 a4 a5 a6 a7 a8 := by
  cases q : Nat.ble l o with
  | true =>
    simp only [q] at e
    cases e
    exact br_t (nI_le (Nat.le_of_ble_eq_true q) (by omega)) H
  | false =>
    simp only [q] at e
    cases e
    exact br_f (nI_ge (bd_nble q) (by omega)) H
theorem bd_needed {a b r J' : Nat} (hJ : bd_R 10 10 1024 nI a1 J) (ha : a < 10) (hb : b < 10) (hn : a ≠ b) (e : bd_nd J a b = some (r, J'))
    (H : ∀ f0 f1 a1' a2 a3 a4 a5 a6 a7 a8, bd_R 10 10 1024 nI a1' J' → post (nI r) (f0, f1, a1', a2, a3, a4, a5, a6, a7, a8)) : wpX_needed post (f0, f1, a1, a2, a3, a4, a5, a6, a7, a8) (nI a) (nI b) := by
  unfold wpX_needed
  dsimp only
  refine bd_isPair ha hb hn ?_
  refine br_f (by decide) ?_
  cases h1 : bd_pv J 0 with
  | none =>
    simp only [bd_nd, h1] at e
    exact absurd e (by simp)
  | some l =>
    cases h2 : bd_pv (bd_un J a b) 0 with
    | none =>
      simp only [bd_nd, h1, h2] at e
      exact absurd e (by simp)
    | some o =>
      have hl := (bd_pv_e h1).1
      have ho := (bd_pv_e h2).1
      have er : (match Nat.ble l o with | true => 0 | false => 1) = r := by
        cases q : Nat.ble l o with
        | true =>
          simp only [bd_nd, h1, h2, q] at e
          cases e
          rfl
        | false =>
          simp only [bd_nd, h1, h2, q] at e
          cases e
          rfl
      have eJ : (match bd_g 1 (bd_g 10 J a) b with | 0 => bd_un J a b | _ + 1 => bd_jn (bd_un J a b) a b) = J' := by
        cases q : Nat.ble l o with
        | true =>
          simp only [bd_nd, h1, h2, q] at e
          cases e
          rfl
        | false =>
          simp only [bd_nd, h1, h2, q] at e
          cases e
          rfl
      refine bd_pairV (ab := 0) hJ (by decide) h1 (fun f0 f1 a2 a3 a4 a5 a6 a7 a8 => ?_)
      refine bd_part hJ ha hb hn (fun a1' hJ1 => ?_)
      refine bd_pairV (ab := 0) hJ1 (by decide) h2 (fun f0 f1 a2 a3 a4 a5 a6 a7 a8 => ?_)
      have hl2 := bd_g_lt 1 (bd_g 10 J a) b
      rcases bd_01 (bd_g 10 J a) b with hb1 | hb1
      · rw [hb1] at eJ ⊢
        cases eJ
        exact br_f (by decide) (bd_n44 hl ho er (H _ _ _ _ _ _ _ _ _ _ hJ1))
      · rw [hb1] at eJ ⊢
        cases eJ
        exact br_t rfl (bd_join hJ1 ha hb hn (fun _ a1'' hJ2 => bd_n44 hl ho er (H _ _ _ _ _ _ _ _ _ _ hJ2)) (fun _ a1'' hJ2 => bd_n44 hl ho er (H _ _ _ _ _ _ _ _ _ _ hJ2)))
end
end
section
/-! ===== the closed facts: three sets of lines, counted out by the kernel ===== -/
def bd_chk (K P S : Nat) : Bool := match bd_pv K S with
  | none => false
  | some w => match Nat.ble (P + 1) (w + bd_ct S 10 0 0) with
    | false => false
    | true => match Nat.ble w (P + 1) with
      | false => false
      | true => Nat.ble (2 * w + bd_ct S 10 0 0) 10
def bd_al (K P lo : Nat) : Nat → Bool
  | 0 => true
  | n + 1 => match bd_chk K P (lo + n) with
    | true => bd_al K P lo n
    | false => false
theorem bd_al_e {K P lo : Nat} : ∀ n, bd_al K P lo n = true → ∀ S, lo ≤ S → S < lo + n → bd_chk K P S = true
  | 0, _, S, h1, h2 => absurd h2 (by omega)
  | n + 1, e, S, h1, h2 => by
    cases q : bd_chk K P (lo + n) with
    | false =>
      simp only [bd_al, q] at e
      exact absurd e (by simp)
    | true =>
      simp only [bd_al, q] at e
      by_cases hS : S = lo + n
      · rw [hS]
        exact q
      · exact bd_al_e n e S h1 (by omega)
theorem bd_chk_e {K P S : Nat} (e : bd_chk K P S = true) : ∃ w, bd_pv K S = some w ∧ P + 1 ≤ w + bd_ct S 10 0 0 ∧ w ≤ P + 1 ∧ 2 * w + bd_ct S 10 0 0 ≤ 10 := by
  cases h : bd_pv K S with
  | none =>
    simp only [bd_chk, h] at e
    exact absurd e (by simp)
  | some w =>
    cases h1 : Nat.ble (P + 1) (w + bd_ct S 10 0 0) with
    | false =>
      simp only [bd_chk, h, h1] at e
      exact absurd e (by simp)
    | true =>
      cases h2 : Nat.ble w (P + 1) with
      | false =>
        simp only [bd_chk, h, h1, h2] at e
        exact absurd e (by simp)
      | true =>
        simp only [bd_chk, h, h1, h2] at e
        exact ⟨w, rfl, Nat.le_of_ble_eq_true h1, Nat.le_of_ble_eq_true h2, Nat.le_of_ble_eq_true e⟩
def bd_ok1 (J s P al : Nat) : Prop := bd_pv J 0 = some P ∧ bd_gu J = some 0 ∧ bd_pt J = some (2 + al) ∧ bd_ps J = some 1023 ∧ bd_us J 0 1 = some 1 ∧ bd_nd J 0 1 = some (0, J) ∧ bd_us J 0 s = some 0 ∧ bd_nd J 0 s = some (0, J) ∧ bd_pv J 1 = some P ∧ bd_pv J 3 = some (P - 1)
def bd_ok2 (J K s P al S2 : Nat) : Prop := bd_jc J 0 s = some K ∧ bd_pv K 0 = some (P + 1) ∧ bd_nd K 0 s = some (1, K) ∧ bd_ps K = some S2 ∧ bd_g 1 S2 0 = 0 ∧ bd_g 1 S2 1 = 0 ∧ bd_us K 0 1 = some 0 ∧ bd_us K 1 2 = some 1 ∧ bd_gu K = some 0 ∧ bd_pt K = some (1 + al) ∧ bd_pv K (Nat.shiftLeft 1 s) = some P ∧ bd_pv K (Nat.lor 1 (Nat.shiftLeft 1 s)) = some P ∧ bd_g 1 (bd_g 10 K s) 0 = 1 ∧ bd_un K s 0 = J ∧ bd_g 1 (bd_g 10 J s) 0 = 0 ∧ bd_un J s 0 = J
def bd_ok3 (J K1 K s P al : Nat) : Prop := bd_jc J 0 9 = some K1 ∧ bd_jc K1 9 s = some K ∧ bd_pv K 0 = some (P + 1) ∧ bd_gu K = some 512 ∧ bd_ps K = some 511 ∧ bd_pt K = some (2 + al - 1) ∧ bd_us K 9 s = some 1 ∧ bd_us K 9 0 = some 1 ∧ bd_nd K 9 0 = some (0, K) ∧ bd_us K 0 1 = some 1 ∧ bd_pv K 512 = some P ∧ bd_pv K (Nat.shiftLeft 1 s) = some (P + 1) ∧ bd_pv K 1 = some (P + 1) ∧ bd_pv K (Nat.lor 1 (Nat.shiftLeft 1 s)) = some P
def bd_Ja : Nat := 232491989406496142193071110
def bd_Ea : Nat := 232491990559417646799918150
def bd_Ha : Nat := 1470432028691876417092195846
def bd_Ka : Nat := 80698595133252024369341797894
theorem bd_ba : bd_bu 3 3 6 5 0 0 = some bd_Ja := by decide +kernel
theorem bd_f1a : bd_ok1 bd_Ja 6 2 4 := ⟨by decide +kernel, by decide +kernel, by decide +kernel, by decide +kernel, by decide +kernel, by decide +kernel, by decide +kernel, by decide +kernel, by decide +kernel, by decide +kernel⟩
theorem bd_f2a : bd_ok2 bd_Ja bd_Ea 6 2 4 568 := ⟨by decide +kernel, by decide +kernel, by decide +kernel, by decide +kernel, by decide +kernel, by decide +kernel, by decide +kernel, by decide +kernel, by decide +kernel, by decide +kernel, by decide +kernel, by decide +kernel, by decide +kernel, by decide +kernel, by decide +kernel, by decide +kernel⟩
theorem bd_f3a : bd_ok3 bd_Ja bd_Ha bd_Ka 6 2 4 := ⟨by decide +kernel, by decide +kernel, by decide +kernel, by decide +kernel, by decide +kernel, by decide +kernel, by decide +kernel, by decide +kernel, by decide +kernel, by decide +kernel, by decide +kernel, by decide +kernel, by decide +kernel, by decide +kernel⟩
theorem bd_g0a : bd_al bd_Ka 2 0 128 = true := by decide +kernel
theorem bd_g1a : bd_al bd_Ka 2 128 128 = true := by decide +kernel
theorem bd_g2a : bd_al bd_Ka 2 256 128 = true := by decide +kernel
theorem bd_g3a : bd_al bd_Ka 2 384 128 = true := by decide +kernel
theorem bd_g4a : bd_al bd_Ka 2 512 128 = true := by decide +kernel
theorem bd_g5a : bd_al bd_Ka 2 640 128 = true := by decide +kernel
theorem bd_g6a : bd_al bd_Ka 2 768 128 = true := by decide +kernel
theorem bd_g7a : bd_al bd_Ka 2 896 128 = true := by decide +kernel
theorem bd_f4a : ∀ S, S < 1024 → bd_chk bd_Ka 2 S = true := by
  intro S hS
  by_cases h0 : S < 128
  · exact bd_al_e 128 bd_g0a S (by omega) (by omega)
  by_cases h1 : S < 256
  · exact bd_al_e 128 bd_g1a S (by omega) (by omega)
  by_cases h2 : S < 384
  · exact bd_al_e 128 bd_g2a S (by omega) (by omega)
  by_cases h3 : S < 512
  · exact bd_al_e 128 bd_g3a S (by omega) (by omega)
  by_cases h4 : S < 640
  · exact bd_al_e 128 bd_g4a S (by omega) (by omega)
  by_cases h5 : S < 768
  · exact bd_al_e 128 bd_g5a S (by omega) (by omega)
  by_cases h6 : S < 896
  · exact bd_al_e 128 bd_g6a S (by omega) (by omega)
  exact bd_al_e 128 bd_g7a S (by omega) (by omega)
def bd_Jb : Nat := 232491989406506059279897618
def bd_Eb : Nat := 232491990559427563886744658
def bd_Hb : Nat := 1470432028691886334179022354
def bd_Kb : Nat := 80698595133252034286428624402
theorem bd_bb : bd_bu 5 3 6 5 0 0 = some bd_Jb := by decide +kernel
theorem bd_f1b : bd_ok1 bd_Jb 6 3 2 := ⟨by decide +kernel, by decide +kernel, by decide +kernel, by decide +kernel, by decide +kernel, by decide +kernel, by decide +kernel, by decide +kernel, by decide +kernel, by decide +kernel⟩
theorem bd_f2b : bd_ok2 bd_Jb bd_Eb 6 3 2 544 := ⟨by decide +kernel, by decide +kernel, by decide +kernel, by decide +kernel, by decide +kernel, by decide +kernel, by decide +kernel, by decide +kernel, by decide +kernel, by decide +kernel, by decide +kernel, by decide +kernel, by decide +kernel, by decide +kernel, by decide +kernel, by decide +kernel⟩
theorem bd_f3b : bd_ok3 bd_Jb bd_Hb bd_Kb 6 3 2 := ⟨by decide +kernel, by decide +kernel, by decide +kernel, by decide +kernel, by decide +kernel, by decide +kernel, by decide +kernel, by decide +kernel, by decide +kernel, by decide +kernel, by decide +kernel, by decide +kernel, by decide +kernel, by decide +kernel⟩
theorem bd_g0b : bd_al bd_Kb 3 0 128 = true := by decide +kernel
theorem bd_g1b : bd_al bd_Kb 3 128 128 = true := by decide +kernel
theorem bd_g2b : bd_al bd_Kb 3 256 128 = true := by decide +kernel
theorem bd_g3b : bd_al bd_Kb 3 384 128 = true := by decide +kernel
theorem bd_g4b : bd_al bd_Kb 3 512 128 = true := by decide +kernel
theorem bd_g5b : bd_al bd_Kb 3 640 128 = true := by decide +kernel
theorem bd_g6b : bd_al bd_Kb 3 768 128 = true := by decide +kernel
theorem bd_g7b : bd_al bd_Kb 3 896 128 = true := by decide +kernel
theorem bd_f4b : ∀ S, S < 1024 → bd_chk bd_Kb 3 S = true := by
  intro S hS
  by_cases h0 : S < 128
  · exact bd_al_e 128 bd_g0b S (by omega) (by omega)
  by_cases h1 : S < 256
  · exact bd_al_e 128 bd_g1b S (by omega) (by omega)
  by_cases h2 : S < 384
  · exact bd_al_e 128 bd_g2b S (by omega) (by omega)
  by_cases h3 : S < 512
  · exact bd_al_e 128 bd_g3b S (by omega) (by omega)
  by_cases h4 : S < 640
  · exact bd_al_e 128 bd_g4b S (by omega) (by omega)
  by_cases h5 : S < 768
  · exact bd_al_e 128 bd_g5b S (by omega) (by omega)
  by_cases h6 : S < 896
  · exact bd_al_e 128 bd_g6b S (by omega) (by omega)
  exact bd_al_e 128 bd_g7b S (by omega) (by omega)
def bd_Jc : Nat := 174463291900965561769661446
def bd_Ec : Nat := 174463291900966661281289238
def bd_Hc : Nat := 1412403331186345836668786182
def bd_Kc : Nat := 21219443959752993185008195078
theorem bd_bc : bd_bu 3 5 4 5 0 0 = some bd_Jc := by decide +kernel
theorem bd_f1c : bd_ok1 bd_Jc 4 3 2 := ⟨by decide +kernel, by decide +kernel, by decide +kernel, by decide +kernel, by decide +kernel, by decide +kernel, by decide +kernel, by decide +kernel, by decide +kernel, by decide +kernel⟩
theorem bd_f2c : bd_ok2 bd_Jc bd_Ec 4 3 2 520 := ⟨by decide +kernel, by decide +kernel, by decide +kernel, by decide +kernel, by decide +kernel, by decide +kernel, by decide +kernel, by decide +kernel, by decide +kernel, by decide +kernel, by decide +kernel, by decide +kernel, by decide +kernel, by decide +kernel, by decide +kernel, by decide +kernel⟩
theorem bd_f3c : bd_ok3 bd_Jc bd_Hc bd_Kc 4 3 2 := ⟨by decide +kernel, by decide +kernel, by decide +kernel, by decide +kernel, by decide +kernel, by decide +kernel, by decide +kernel, by decide +kernel, by decide +kernel, by decide +kernel, by decide +kernel, by decide +kernel, by decide +kernel, by decide +kernel⟩
theorem bd_g0c : bd_al bd_Kc 3 0 128 = true := by decide +kernel
theorem bd_g1c : bd_al bd_Kc 3 128 128 = true := by decide +kernel
theorem bd_g2c : bd_al bd_Kc 3 256 128 = true := by decide +kernel
theorem bd_g3c : bd_al bd_Kc 3 384 128 = true := by decide +kernel
theorem bd_g4c : bd_al bd_Kc 3 512 128 = true := by decide +kernel
theorem bd_g5c : bd_al bd_Kc 3 640 128 = true := by decide +kernel
theorem bd_g6c : bd_al bd_Kc 3 768 128 = true := by decide +kernel
theorem bd_g7c : bd_al bd_Kc 3 896 128 = true := by decide +kernel
theorem bd_f4c : ∀ S, S < 1024 → bd_chk bd_Kc 3 S = true := by
  intro S hS
  by_cases h0 : S < 128
  · exact bd_al_e 128 bd_g0c S (by omega) (by omega)
  by_cases h1 : S < 256
  · exact bd_al_e 128 bd_g1c S (by omega) (by omega)
  by_cases h2 : S < 384
  · exact bd_al_e 128 bd_g2c S (by omega) (by omega)
  by_cases h3 : S < 512
  · exact bd_al_e 128 bd_g3c S (by omega) (by omega)
  by_cases h4 : S < 640
  · exact bd_al_e 128 bd_g4c S (by omega) (by omega)
  by_cases h5 : S < 768
  · exact bd_al_e 128 bd_g5c S (by omega) (by omega)
  by_cases h6 : S < 896
  · exact bd_al_e 128 bd_g6c S (by omega) (by omega)
  exact bd_al_e 128 bd_g7c S (by omega) (by omega)
end
section
/-! ===== the law ===== -/
theorem bd_m1023 {S : Nat} (h : S < 1024) : nI S &&& 1023 = nI S := by
  rw [pk_andN (by omega) 10 (by decide), Nat.mod_eq_of_lt h]
theorem bd_511 : ∀ p, p < 9 → bd_g 1 511 p = 1 := by decide +kernel
section
variable {post : Int32 → St0 → Prop} {mc ms kc ks : Nat} {x2 x3 x4 : Int32} {f0 f1 : Int32} {a1 a2 a3 a4 a5 a6 a7 a8 : Nat → Int32}
theorem bd_l738 {S P w g' K : Nat} (hp : post 1 ()) (hJ : bd_R 10 10 1024 nI a1 K) (hS : x4 &&& 1023 = nI S) (hS2 : S < 1024) (hb : ∀ i, i < 10 → (x4 >>> (nI i &&& 31)) &&& 1 = nI (bd_g 1 S i))
    (e : bd_pv K S = some w) (h1 : P + 1 ≤ w + g') (h2 : w ≤ P + 1) (h3 : 2 * w + g' ≤ 10) (hP : P < 1024) :
    ∀ n i g, i + n = 10 → bd_ct S n i g = g' → wL_lawOf_738 post mc ms x4 (nI P) (nI w) kc ks f0 f1 a1 a2 a3 a4 a5 a6 a7 a8 (n + 1) (nI g) (nI i)
  | 0, i, g, hi, eg => by
    simp only [bd_ct] at eg
    subst eg
    refine br_t (nI_le (a := 10) (by omega) (by omega)) ?_
    refine br_f ?_ (br_f ?_ (br_f ?_ ?_))
    · rw [nI_1, Int32.lt_iff_toInt_lt, pk_sub_toInt (by omega) (by omega), nI_toInt (by omega)]
      omega
    · rw [nI_1]
      exact nI_nlt (by omega) (by omega)
    · show ¬ nI 10 - nI g < nI 2 * nI w
      rw [pk_mul, Int32.lt_iff_toInt_lt, pk_sub_toInt (by omega) (by omega), nI_toInt (by omega)]
      omega
    · refine bd_mostW hJ (S := S) (by rw [hS]; exact bd_m1023 hS2) hS2 e (fun f0 f1 a2 a3 a4 a5 a6 a7 a8 => ?_)
      exact br_t rfl hp
  | n + 1, i, g, hi, eg => by
    simp only [bd_ct] at eg
    refine br_f (nI_ge (b := 10) (by omega) (by decide)) (nm_r (e' := nI (g + bd_g 1 S i)) ?_ (nm_r (nI_1 i) (bd_l738 hp hJ hS hS2 hb e h1 h2 h3 hP n (i + 1) _ (by omega) eg)))
    rw [hb i (by omega), nI_add]
/-- behind the last question about p -/
theorem bd_tail {P K : Nat} (hp : post 1 ()) (hJ : bd_R 10 10 1024 nI a1 K) (hP : P < 1024) (F : ∀ S, S < 1024 → bd_chk K P S = true) {ψ : Int32 → St2 → Prop}
    (Hψ : ∀ r f0 f1 a1 a2 a3 a4 a5 a6 a7 a8, (∃ fu, wL_lawOf_738 post mc ms x4 (nI P) r kc ks f0 f1 a1 a2 a3 a4 a5 a6 a7 a8 fu 0 0) → ψ r (f0, f1, a1, a2, a3, a4, a5, a6, a7, a8)) :
    wpX_mostWithout ψ (f0, f1, a1, a2, a3, a4, a5, a6, a7, a8) x4 := by
  have hS2 : x4.toBitVec.toNat % 2 ^ 10 < 1024 := Nat.mod_lt _ (by decide)
  obtain ⟨w, e, h1, h2, h3⟩ := bd_chk_e (F _ hS2)
  refine bd_mostW hJ (bd_s1023 x4) hS2 e (fun f0 f1 a2 a3 a4 a5 a6 a7 a8 => Hψ _ f0 f1 a1 a2 a3 a4 a5 a6 a7 a8 ?_)
  exact ⟨11, bd_l738 hp hJ (bd_s1023 x4) hS2 (fun i hi => bd_sset x4 hi) e h1 h2 h3 hP 10 0 0 rfl rfl⟩
theorem bd_l708 {P K p z : Nat} (hp : post 1 ()) (hJ : bd_R 10 10 1024 nI a1 K) (hP : P < 1024) (F : ∀ S, S < 1024 → bd_chk K P S = true) (hps : bd_ps K = some 511) (h10 : p < 10) (hz : bd_g 1 511 p = z) :
    wL_lawOf_708 post mc ms (nI p) x4 (nI P) (nI z) kc ks f0 f1 a1 a2 a3 a4 a5 a6 a7 a8 := by
  refine bd_spare hJ h10 hps (fun f0 f1 a2 a3 a4 a5 a6 a7 a8 => br_t (by rw [hz]) ?_)
  exact bd_tail hp hJ hP F (fun r f0 f1 a1 a2 a3 a4 a5 a6 a7 a8 h => h)
theorem bd_l693 {P K : Nat} (hp : post 1 ()) (hJ : bd_R 10 10 1024 nI a1 K) (hP : P < 1024) (F : ∀ S, S < 1024 → bd_chk K P S = true) (hx : x3 < 0 ∨ ¬ x3 ≤ 9) :
    wL_lawOf_693 post mc ms x3 x4 (nI P) kc ks f0 f1 a1 a2 a3 a4 a5 a6 a7 a8 := by
  unfold wL_lawOf_693 wL_lawOf_708
  refine bd_spareN hx ?_
  refine br_t rfl ?_
  exact bd_tail hp hJ hP F (fun r f0 f1 a1 a2 a3 a4 a5 a6 a7 a8 h => h)
theorem bd_exit {m n s P al J E S2 H1 K : Nat} (hp : post 1 ()) (hs : s < 9) (hs0 : 0 < s) (hP : 0 < P) (hP2 : P < 512) (eP : nI m / 2 + nI n / 2 = nI P) (eA : (10 - nI m) - nI n = nI al)
    (F1 : bd_ok1 J s P al) (F2 : bd_ok2 J E s P al S2) (F3 : bd_ok3 J H1 K s P al) (F4 : ∀ S, S < 1024 → bd_chk K P S = true) (hJ : bd_R 10 10 1024 nI a1 J) (fu : Nat) :
    wL_lawOf_55 post mc ms x2 x3 x4 (nI m) (nI n) (nI s) kc ks (fu + 1) (nI 5) f0 f1 a1 a2 a3 a4 a5 a6 a7 a8 := by
  obtain ⟨c1, c2, c3, c4, c5, c6, c7, c8, c9, c10⟩ := F1
  have es1 : ((1 : Int32) <<< (nI s &&& 31)) &&& 1023 = nI (Nat.shiftLeft 1 s) := by
    rw [bd_shl1 s (by omega)]
    exact bd_m1023 (bd_sl_lt s (by omega))
  have es2 : ((1 : Int32) ||| ((1 : Int32) <<< (nI s &&& 31))) &&& 1023 = nI (Nat.lor 1 (Nat.shiftLeft 1 s)) := by
    rw [bd_shl1 s (by omega)]
    show (nI 1 ||| nI (Nat.shiftLeft 1 s)) &&& 1023 = _
    rw [bd_orN]
    exact bd_m1023 (bd_or_lt (by decide) (bd_sl_lt s (by omega)))
  have hl2 : Nat.shiftLeft 1 s < 1024 := bd_sl_lt s (by omega)
  have hl3 : Nat.lor 1 (Nat.shiftLeft 1 s) < 1024 := bd_or_lt (by decide) hl2
  refine br_t (nI_le (a := 5) (by omega) (by decide)) ⟨by decide, by decide, nm_r eP (nm_r eA ?_)⟩
  refine bd_most hJ c1 (fun f0 f1 a2 a3 a4 a5 a6 a7 a8 => br_t rfl ?_)
  refine bd_guards hJ c2 (fun f0 f1 a2 a3 a4 a5 a6 a7 a8 => br_t rfl ?_)
  refine bd_parts hJ c3 (fun f0 f1 a2 a3 a4 a5 a6 a7 a8 => br_t (nI_add 2 al).symm ?_)
  refine bd_spare (a := 0) hJ (by decide) c4 (fun f0 f1 a2 a3 a4 a5 a6 a7 a8 => br_t (by decide) ?_)
  refine bd_spare hJ (by omega) c4 (fun f0 f1 a2 a3 a4 a5 a6 a7 a8 => br_t (by rw [(by decide +kernel : ∀ s, s < 9 → bd_g 1 1023 s = 1) s hs]; rfl) ?_)
  refine bd_usable (a := 0) (b := 1) hJ (by decide) (by decide) (by decide) c5 (fun f0 f1 a2 a3 a4 a5 a6 a7 a8 => br_t rfl ?_)
  refine bd_needed (a := 0) (b := 1) hJ (by decide) (by decide) (by decide) c6 (fun f0 f1 a1 a2 a3 a4 a5 a6 a7 a8 hJ => br_t rfl ?_)
  refine bd_usable (a := 0) hJ (by decide) (by omega) (by omega) c7 (fun f0 f1 a2 a3 a4 a5 a6 a7 a8 => br_t rfl ?_)
  refine bd_needed (a := 0) hJ (by decide) (by omega) (by omega) c8 (fun f0 f1 a1 a2 a3 a4 a5 a6 a7 a8 hJ => br_t rfl ?_)
  refine bd_mostW hJ (S := 1) (by decide) (by decide) c9 (fun f0 f1 a2 a3 a4 a5 a6 a7 a8 => br_t rfl ?_)
  refine bd_mostW hJ (S := 3) (by decide) (by decide) c10 (fun f0 f1 a2 a3 a4 a5 a6 a7 a8 => br_t (pk_sub (b := 1) (by omega)).symm ?_)
  refine br_c (fun _ => ?_) (fun _ => ?_)
  · obtain ⟨d1, d2, d3, d4, d5, d6, d7, d8, d9, d10, d11, d12, d13, d14, d15, d16⟩ := F2
    refine bd_join1 (a := 0) hJ d1 (fun a1 hJ => br_t rfl ?_)
    refine bd_most hJ d2 (fun f0 f1 a2 a3 a4 a5 a6 a7 a8 => br_t (nI_1 P).symm ?_)
    refine bd_needed (a := 0) hJ (by decide) (by omega) (by omega) d3 (fun f0 f1 a1 a2 a3 a4 a5 a6 a7 a8 hJ => br_t rfl ?_)
    refine bd_spare (a := 0) hJ (by decide) d4 (fun f0 f1 a2 a3 a4 a5 a6 a7 a8 => br_t (by rw [d5]; rfl) ?_)
    refine bd_spare (a := 1) hJ (by decide) d4 (fun f0 f1 a2 a3 a4 a5 a6 a7 a8 => br_t (by rw [d6]; rfl) ?_)
    refine bd_usable (a := 0) (b := 1) hJ (by decide) (by decide) (by decide) d7 (fun f0 f1 a2 a3 a4 a5 a6 a7 a8 => br_t rfl ?_)
    refine bd_usable (a := 1) (b := 2) hJ (by decide) (by decide) (by decide) d8 (fun f0 f1 a2 a3 a4 a5 a6 a7 a8 => br_t rfl ?_)
    refine bd_guards hJ d9 (fun f0 f1 a2 a3 a4 a5 a6 a7 a8 => br_t rfl ?_)
    refine bd_parts hJ d10 (fun f0 f1 a2 a3 a4 a5 a6 a7 a8 => br_t (nI_add 1 al).symm ?_)
    refine bd_mostW hJ es1 hl2 d11 (fun f0 f1 a2 a3 a4 a5 a6 a7 a8 => br_t rfl ?_)
    refine bd_mostW hJ es2 hl3 d12 (fun f0 f1 a2 a3 a4 a5 a6 a7 a8 => br_t rfl ?_)
    refine bd_part (b := 0) hJ (by omega) (by decide) (by omega) (fun a1 hJ => br_t (by rw [d13]; rfl) ?_)
    rw [d14] at hJ
    refine bd_part (b := 0) hJ (by omega) (by decide) (by omega) (fun a1 hJ => br_t (by rw [d15]; rfl) ?_)
    rw [d16] at hJ
    refine bd_most hJ c1 (fun f0 f1 a2 a3 a4 a5 a6 a7 a8 => br_t rfl ?_)
    exact bd_joinN (by decide) (br_t rfl (bd_partN (by decide) (br_t rfl (bd_usableN (by decide) (br_t rfl (bd_neededN (by decide) (br_t rfl hp)))))))
  · obtain ⟨d1, d2, d3, d4, d5, d6, d7, d8, d9, d10, d11, d12, d13, d14⟩ := F3
    refine bd_join1 (a := 0) (b := 9) hJ d1 (fun a1 hJ => br_t rfl ?_)
    refine bd_join1 (a := 9) hJ d2 (fun a1 hJ => br_t rfl ?_)
    refine bd_most hJ d3 (fun f0 f1 a2 a3 a4 a5 a6 a7 a8 => br_t (nI_1 P).symm ?_)
    refine bd_guards hJ d4 (fun f0 f1 a2 a3 a4 a5 a6 a7 a8 => br_t rfl ?_)
    refine bd_spare (a := 9) hJ (by decide) d5 (fun f0 f1 a2 a3 a4 a5 a6 a7 a8 => br_t (by decide) ?_)
    refine bd_spare (a := 2) hJ (by decide) d5 (fun f0 f1 a2 a3 a4 a5 a6 a7 a8 => br_t (by decide) ?_)
    refine bd_parts hJ d6 (fun f0 f1 a2 a3 a4 a5 a6 a7 a8 => br_t (by rw [← pk_sub (b := 1) (by omega), ← nI_add]; rfl) ?_)
    refine bd_usable (a := 9) hJ (by decide) (by omega) (by omega) d7 (fun f0 f1 a2 a3 a4 a5 a6 a7 a8 => br_t rfl ?_)
    refine bd_usable (a := 9) (b := 0) hJ (by decide) (by decide) (by decide) d8 (fun f0 f1 a2 a3 a4 a5 a6 a7 a8 => br_t rfl ?_)
    refine bd_needed (a := 9) (b := 0) hJ (by decide) (by decide) (by decide) d9 (fun f0 f1 a1 a2 a3 a4 a5 a6 a7 a8 hJ => br_t rfl ?_)
    refine bd_usable (a := 0) (b := 1) hJ (by decide) (by decide) (by decide) d10 (fun f0 f1 a2 a3 a4 a5 a6 a7 a8 => br_t rfl ?_)
    refine bd_mostW hJ (S := 512) (by decide) (by decide) d11 (fun f0 f1 a2 a3 a4 a5 a6 a7 a8 => br_t rfl ?_)
    refine bd_mostW hJ es1 hl2 d12 (fun f0 f1 a2 a3 a4 a5 a6 a7 a8 => br_t (nI_1 P).symm ?_)
    refine bd_mostW hJ (S := 1) (by decide) (by decide) d13 (fun f0 f1 a2 a3 a4 a5 a6 a7 a8 => br_t (nI_1 P).symm ?_)
    refine bd_mostW hJ es2 hl3 d14 (fun f0 f1 a2 a3 a4 a5 a6 a7 a8 => br_t rfl ?_)
    refine br_c (fun h => bd_l693 hp hJ (by omega) F4 (Or.inl h)) (fun h => br_c (fun h9 => ?_) (fun h9 => bd_l693 hp hJ (by omega) F4 (Or.inr h9)))
    obtain ⟨p, hp9, ep⟩ := nI_of2 (n := 9) (by decide) h h9
    rw [ep]
    refine br_c (fun h => ?_) (fun h => ?_)
    · have e9 : p = 9 := (nI_eq (by omega) (by decide)).mp h
      exact bd_l708 (z := 0) hp hJ (by omega) F4 d5 (by omega) (by rw [e9]; decide)
    · have e9 : p ≠ 9 := fun z => h (by rw [z]; rfl)
      exact bd_l708 (z := 1) hp hJ (by omega) F4 d5 (by omega) (bd_511 p (by omega))
theorem bd_l88 {J55 : Int32 → Int32 → Int32 → (Nat → Int32) → (Nat → Int32) → (Nat → Int32) → (Nat → Int32) → (Nat → Int32) → (Nat → Int32) → (Nat → Int32) → (Nat → Int32) → Prop} {x6 : Int32} {n s i J J' : Nat} (hn : 0 < n) (hn9 : n < 10) (hs : s < 10) (hi : i < 5) (hJ : bd_R 10 10 1024 nI a1 J)
    (e : bd_jo n i J (s + i) (s + (i + 1) % n) = some J')
    (H : ∀ a1', bd_R 10 10 1024 nI a1' J' → J55 (nI (i + 1)) f0 f1 a1' a2 a3 a4 a5 a6 a7 a8) : wL_lawOf_88 post mc ms J55 x2 x3 x4 x6 (nI n) (nI s) (nI i) kc ks f0 f1 a1 a2 a3 a4 a5 a6 a7 a8 := by
  cases q : Nat.ble n i with
  | true =>
    simp only [bd_jo, q] at e
    cases e
    exact br_t (nI_le (Nat.le_of_ble_eq_true q) (by omega)) (nm_r (nI_1 i) (H a1 hJ))
  | false =>
    simp only [bd_jo, q] at e
    refine br_f (nI_ge (bd_nble q) (by omega)) ⟨nI_ne0 hn (by omega), ?_⟩
    rw [nI_1, pk_rem (by omega) hn (by omega), nI_add, nI_add]
    exact bd_join1 hJ e (fun a1' hJ' => br_t rfl (nm_e (H a1' hJ')))
theorem bd_l55 {m n s J' : Nat} (hm : 0 < m) (hm9 : m < 10) (hn : 0 < n) (hn9 : n < 10) (hs : s < 10)
    (Hx : ∀ fu f0 f1 a1 a2 a3 a4 a5 a6 a7 a8, bd_R 10 10 1024 nI a1 J' → wL_lawOf_55 post mc ms x2 x3 x4 (nI m) (nI n) (nI s) kc ks (fu + 1) (nI 5) f0 f1 a1 a2 a3 a4 a5 a6 a7 a8) :
    ∀ c i J f0 f1 a1 a2 a3 a4 a5 a6 a7 a8, i + c = 5 → bd_R 10 10 1024 nI a1 J → bd_bu m n s c i J = some J' → wL_lawOf_55 post mc ms x2 x3 x4 (nI m) (nI n) (nI s) kc ks (c + 1) (nI i) f0 f1 a1 a2 a3 a4 a5 a6 a7 a8
  | 0, i, J, f0, f1, a1, a2, a3, a4, a5, a6, a7, a8, hi, hJ, e => by
    cases e
    obtain rfl : i = 5 := by omega
    exact Hx 0 f0 f1 a1 a2 a3 a4 a5 a6 a7 a8 hJ
  | c + 1, i, J, f0, f1, a1, a2, a3, a4, a5, a6, a7, a8, hi, hJ, e => by
    cases h1 : bd_jo m i J i ((i + 1) % m) with
    | none =>
      simp only [bd_bu, h1] at e
      exact absurd e (by simp)
    | some J1 =>
      cases h2 : bd_jo n i J1 (s + i) (s + (i + 1) % n) with
      | none =>
        simp only [bd_bu, h1, h2] at e
        exact absurd e (by simp)
      | some J2 =>
        simp only [bd_bu, h1, h2] at e
        refine br_f (nI_ge (b := 5) (by omega) (by decide)) ?_
        cases q : Nat.ble m i with
        | true =>
          simp only [bd_jo, q] at h1
          cases h1
          exact br_t (nI_le (Nat.le_of_ble_eq_true q) (by omega)) (bd_l88 hn hn9 hs (by omega) hJ h2 (fun a1' hJ' => bd_l55 hm hm9 hn hn9 hs Hx c (i + 1) J2 f0 f1 a1' a2 a3 a4 a5 a6 a7 a8 (by omega) hJ' e))
        | false =>
          simp only [bd_jo, q] at h1
          refine br_f (nI_ge (bd_nble q) (by omega)) ⟨nI_ne0 hm (by omega), ?_⟩
          rw [nI_1, pk_rem (by omega) hm (by omega)]
          exact bd_join1 hJ h1 (fun a1' hJ' => br_t rfl (bd_l88 hn hn9 hs (by omega) hJ' h2 (fun a1'' hJ'' => bd_l55 hm hm9 hn hn9 hs Hx c (i + 1) J2 f0 f1 a1'' a2 a3 a4 a5 a6 a7 a8 (by omega) hJ'' e)))
theorem bd_l20a (hp : post 1 ()) (hJ : bd_R 10 10 1024 nI a1 0) {x1 : Int32} : wL_lawOf_20 post mc ms x1 x2 x3 x4 3 kc ks f0 f1 a1 a2 a3 a4 a5 a6 a7 a8 := by
  refine br_c (fun _ => ?_) (fun _ => br_f (by decide) ?_)
  · refine nm_r (e' := nI 6) (by decide) ⟨6, ?_⟩
    exact bd_l55 (m := 3) (n := 3) (by decide) (by decide) (by decide) (by decide) (by decide) (fun fu f0 f1 a1 a2 a3 a4 a5 a6 a7 a8 hJ => bd_exit hp (by decide) (by decide) (by decide) (by decide) (by decide) (by decide) bd_f1a bd_f2a bd_f3a bd_f4a hJ fu) 5 0 0 f0 f1 a1 a2 a3 a4 a5 a6 a7 a8 rfl hJ bd_ba
  · refine nm_r (e' := nI 4) (by decide) ⟨6, ?_⟩
    exact bd_l55 (m := 3) (n := 5) (by decide) (by decide) (by decide) (by decide) (by decide) (fun fu f0 f1 a1 a2 a3 a4 a5 a6 a7 a8 hJ => bd_exit hp (by decide) (by decide) (by decide) (by decide) (by decide) (by decide) bd_f1c bd_f2c bd_f3c bd_f4c hJ fu) 5 0 0 f0 f1 a1 a2 a3 a4 a5 a6 a7 a8 rfl hJ bd_bc
theorem bd_l20b (hp : post 1 ()) (hJ : bd_R 10 10 1024 nI a1 0) {x1 : Int32} : wL_lawOf_20 post mc ms x1 x2 x3 x4 5 kc ks f0 f1 a1 a2 a3 a4 a5 a6 a7 a8 := by
  have T : ∃ fu, wL_lawOf_55 post mc ms x2 x3 x4 5 3 (nI 6) kc ks fu 0 f0 f1 a1 a2 a3 a4 a5 a6 a7 a8 :=
    ⟨6, bd_l55 (m := 5) (n := 3) (by decide) (by decide) (by decide) (by decide) (by decide) (fun fu f0 f1 a1 a2 a3 a4 a5 a6 a7 a8 hJ => bd_exit hp (by decide) (by decide) (by decide) (by decide) (by decide) (by decide) bd_f1b bd_f2b bd_f3b bd_f4b hJ fu) 5 0 0 f0 f1 a1 a2 a3 a4 a5 a6 a7 a8 rfl hJ bd_bb⟩
  exact br_c (fun _ => nm_r (e' := nI 6) (by decide) T) (fun _ => br_t rfl (nm_r (e' := nI 6) (by decide) T))
end
theorem bd_lawOf {post : Int32 → St0 → Prop} {x0 x1 x2 x3 x4 : Int32} (hp : post 1 ()) : wpL_lawOf post 54 864 () x0 x1 x2 x3 x4 := by
  have hJ : bd_R 10 10 1024 nI (fun _ => 0) 0 := bd_R_0 (x := 0) (fun _ _ => rfl) (by decide) rfl
  refine ⟨by decide, by decide, 8, 80, by decide, by decide, by decide, by decide, by decide, by decide, by decide, by decide, by decide, by decide, by decide, by decide, by decide, by decide, by decide, by decide, by decide, by decide, ?_⟩
  exact br_c (fun _ => bd_l20a hp hJ) (fun _ => bd_l20b hp hJ)
theorem bd_cell {post : Int32 → Prop} {L : Nat} {xs : Nat → Int32} (i : Nat) (hL : L ≤ 5) (hi : i < 5) (H : ∀ r, post r) : wpL_cellAt post L xs () (nI i) :=
  pk_le L i (fun _ => H 0) (fun h => ⟨pk_in i L h, H _⟩)
end
section
theorem i_vc (xs : Nat → Int32) (L : Nat) (hL : L ≤ 5) : wpL_law (fun r => r = 1) L xs :=
  bd_cell 0 hL (by decide) (fun _ => bd_cell 1 hL (by decide) (fun _ => bd_cell 2 hL (by decide) (fun _ => bd_cell 3 hL (by decide) (fun _ => bd_cell 4 hL (by decide) (fun _ =>
    ⟨54, 864, by decide, by decide, bd_lawOf rfl⟩)))))
end

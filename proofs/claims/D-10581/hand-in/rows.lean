section
/-- a branch, made for the kernel -/
noncomputable def zq_if (c a b : Bool) : Bool := @Bool.rec (fun _ => Bool) b a c
/-- a natural number is worked out before it is handed on -/
noncomputable def zq_fo (x : Nat) (T : Nat → Bool) : Bool := @Nat.rec (fun _ => Bool) (T 0) (fun p _ => T (Nat.succ p)) x
theorem zq_fo_t {x : Nat} {T : Nat → Bool} (h : zq_fo x T = true) : T x = true := by
  cases x with
  | zero => exact h
  | succ p => exact h
theorem zq_if_t {c a b : Bool} (h : zq_if c a b = true) : (c = true ∧ a = true) ∨ (c = false ∧ b = true) := by
  cases c with
  | false => exact Or.inr ⟨rfl, h⟩
  | true => exact Or.inl ⟨rfl, h⟩
theorem zq_if_a {c a : Bool} (h : zq_if c a false = true) : c = true ∧ a = true := by
  cases c with
  | false => exact absurd h Bool.false_ne_true
  | true => exact ⟨rfl, h⟩
theorem zq_if_b {c b : Bool} (h : zq_if c false b = true) : c = false ∧ b = true := by
  cases c with
  | false => exact ⟨rfl, h⟩
  | true => exact absurd h Bool.false_ne_true
theorem zq_if_tt (a b : Bool) : zq_if true a b = a := rfl
theorem zq_if_ff (a b : Bool) : zq_if false a b = b := rfl
/-! words -/
theorem zq_back (x : Int32) : nI x.toBitVec.toNat = x := by
  apply Int32.toBitVec_inj.mp
  unfold nI
  rw [Int32.toBitVec_ofNat']
  rw [BitVec.ofNat_toNat]
  exact BitVec.setWidth_eq _
theorem zq_mod (x : Nat) : nI (x % 4294967296) = nI x := by
  apply Int32.toBitVec_inj.mp
  unfold nI
  rw [Int32.toBitVec_ofNat', Int32.toBitVec_ofNat']
  apply BitVec.eq_of_toNat_eq
  rw [BitVec.toNat_ofNat, BitVec.toNat_ofNat]
  omega
noncomputable def zq_le (a b : Nat) : Bool := zq_if (Nat.ble a 2147483647) (zq_if (Nat.ble b 2147483647) (Nat.ble a b) (decide (nI a ≤ nI b))) (decide (nI a ≤ nI b))
noncomputable def zq_lt (a b : Nat) : Bool := zq_if (Nat.ble a 2147483647) (zq_if (Nat.ble b 2147483647) (Nat.ble (Nat.succ a) b) (decide (nI a < nI b))) (decide (nI a < nI b))
noncomputable def zq_eq (a b : Nat) : Bool := zq_if (Nat.ble a 2147483647) (zq_if (Nat.ble b 2147483647) (Nat.beq a b) (decide (nI a = nI b))) (decide (nI a = nI b))
noncomputable def zq_add (a b : Nat) : Nat := Nat.mod (Nat.add a b) 4294967296
noncomputable def zq_mul (a b : Nat) : Nat := Nat.mod (Nat.mul a b) 4294967296
noncomputable def zq_sub (a b : Nat) : Nat := Nat.mod (Nat.sub (Nat.add a 4294967296) (Nat.mod b 4294967296)) 4294967296
/-- the same branch at numbers -/
noncomputable def zq_in (c : Bool) (a b : Nat) : Nat := @Bool.rec (fun _ => Nat) b a c
noncomputable def zq_div (a b : Nat) : Nat := zq_in (Nat.ble a 2147483647) (zq_in (Nat.ble b 2147483647) (zq_in (Nat.ble 1 b) (Nat.div a b) (nI a / nI b).toBitVec.toNat) (nI a / nI b).toBitVec.toNat) (nI a / nI b).toBitVec.toNat
noncomputable def zq_rem (a b : Nat) : Nat := zq_in (Nat.ble a 2147483647) (zq_in (Nat.ble b 2147483647) (zq_in (Nat.ble 1 b) (Nat.mod a b) (nI a - nI a / nI b * nI b).toBitVec.toNat) (nI a - nI a / nI b * nI b).toBitVec.toNat) (nI a - nI a / nI b * nI b).toBitVec.toNat
noncomputable def zq_b (a : Nat) : Nat := zq_in (Nat.ble a 127) a (nI a).toInt8.toInt32.toBitVec.toNat
noncomputable def zq_s (a : Nat) : Nat := zq_in (Nat.ble a 32767) a (nI a).toInt16.toInt32.toBitVec.toNat
noncomputable def zq_cl (a : Nat) : Nat := zq_in (Nat.ble a 2147483647) a (nI a).toNatClampNeg
theorem zq_bl {a b : Nat} (h : Nat.ble a b = true) : a ≤ b := Nat.le_of_ble_eq_true h
theorem zc_le {x y : Int32} {a b : Nat} (hx : x = nI a) (hy : y = nI b) : zq_le a b = true ↔ x ≤ y := by
  rw [hx, hy]
  unfold zq_le
  cases h1 : Nat.ble a 2147483647 with
  | false => exact decide_eq_true_iff
  | true =>
    cases h2 : Nat.ble b 2147483647 with
    | false => exact decide_eq_true_iff
    | true =>
      have g1 := zq_bl h1
      have g2 := zq_bl h2
      exact Iff.trans (show Nat.ble a b = true ↔ a ≤ b from ⟨Nat.le_of_ble_eq_true, Nat.ble_eq_true_of_le⟩) (nI_leI (by omega) (by omega)).symm
theorem zc_lt {x y : Int32} {a b : Nat} (hx : x = nI a) (hy : y = nI b) : zq_lt a b = true ↔ x < y := by
  rw [hx, hy]
  unfold zq_lt
  cases h1 : Nat.ble a 2147483647 with
  | false => exact decide_eq_true_iff
  | true =>
    cases h2 : Nat.ble b 2147483647 with
    | false => exact decide_eq_true_iff
    | true =>
      have g1 := zq_bl h1
      have g2 := zq_bl h2
      exact Iff.trans (show Nat.ble (Nat.succ a) b = true ↔ a < b from ⟨Nat.le_of_ble_eq_true, Nat.ble_eq_true_of_le⟩) (nI_ltI (by omega) (by omega)).symm
theorem zc_eq {x y : Int32} {a b : Nat} (hx : x = nI a) (hy : y = nI b) : zq_eq a b = true ↔ x = y := by
  rw [hx, hy]
  unfold zq_eq
  cases h1 : Nat.ble a 2147483647 with
  | false => exact decide_eq_true_iff
  | true =>
    cases h2 : Nat.ble b 2147483647 with
    | false => exact decide_eq_true_iff
    | true =>
      have g1 := zq_bl h1
      have g2 := zq_bl h2
      exact Iff.trans (show Nat.beq a b = true ↔ a = b from ⟨Nat.eq_of_beq_eq_true, fun z => by rw [z]; exact Nat.beq_refl b⟩) (nI_eq (by omega) (by omega)).symm
theorem zt_add {x y : Int32} {a b : Nat} (hx : x = nI a) (hy : y = nI b) : x + y = nI (zq_add a b) := by
  rw [hx, hy, nI_add]
  exact (zq_mod _).symm
theorem zt_mul {x y : Int32} {a b : Nat} (hx : x = nI a) (hy : y = nI b) : x * y = nI (zq_mul a b) := by
  rw [hx, hy, pk_mul]
  exact (zq_mod _).symm
theorem zt_sub {x y : Int32} {a b : Nat} (hx : x = nI a) (hy : y = nI b) : x - y = nI (zq_sub a b) := by
  rw [hx, hy]
  refine Eq.trans ?_ (zq_mod _).symm
  show nI a - nI b = nI ((a + 4294967296) - b % 4294967296)
  rw [← zq_mod b]
  generalize hb : b % 4294967296 = c
  have hc : c < 4294967296 := by omega
  rw [← pk_sub (a := a + 4294967296) (b := c) (by omega)]
  rw [← zq_mod (a + 4294967296), Nat.add_mod_right, zq_mod]
theorem zt_div {x y : Int32} {a b : Nat} (hx : x = nI a) (hy : y = nI b) : x / y = nI (zq_div a b) := by
  rw [hx, hy]
  unfold zq_div
  cases h1 : Nat.ble a 2147483647 with
  | false => exact (zq_back _).symm
  | true =>
    cases h2 : Nat.ble b 2147483647 with
    | false => exact (zq_back _).symm
    | true =>
      cases h3 : Nat.ble 1 b with
      | false => exact (zq_back _).symm
      | true =>
        have g1 := zq_bl h1
        have g2 := zq_bl h2
        have g3 := zq_bl h3
        exact pk_div (by omega) (by omega) (by omega)
theorem zt_rem {x y : Int32} {a b : Nat} (hx : x = nI a) (hy : y = nI b) : x - x / y * y = nI (zq_rem a b) := by
  rw [hx, hy]
  unfold zq_rem
  cases h1 : Nat.ble a 2147483647 with
  | false => exact (zq_back _).symm
  | true =>
    cases h2 : Nat.ble b 2147483647 with
    | false => exact (zq_back _).symm
    | true =>
      cases h3 : Nat.ble 1 b with
      | false => exact (zq_back _).symm
      | true =>
        have g1 := zq_bl h1
        have g2 := zq_bl h2
        have g3 := zq_bl h3
        exact pk_rem (by omega) (by omega) (by omega)
theorem zq_b7 : ∀ a, a < 128 → (nI a).toInt8.toInt32 = nI a := by decide +kernel
theorem zt_b {x : Int32} {a : Nat} (hx : x = nI a) : x.toInt8.toInt32 = nI (zq_b a) := by
  rw [hx]
  unfold zq_b
  cases h1 : Nat.ble a 127 with
  | false => exact (zq_back _).symm
  | true =>
    have g1 := zq_bl h1
    exact zq_b7 a (by omega)
theorem zt_nb {x : Int32} {a : Nat} (hx : x = nI a) : vp_nar .byte x = nI (zq_b a) := by
  rw [vp_nar_byte]
  exact zt_b hx
theorem zq_s15 {a : Nat} (h : a ≤ 32767) : (nI a).toInt16.toInt32 = nI a := by
  apply Int32.toInt_inj.mp
  rw [nI_toInt (by omega)]
  rw [Int16.toInt_toInt32]
  unfold nI
  rw [show Int32.toInt16 (Int32.ofNat a) = Int16.ofNat a from Int32.toInt16_ofNat']
  rw [Int16.toInt_ofNat_of_lt (by omega)]
theorem zt_s {x : Int32} {a : Nat} (hx : x = nI a) : x.toInt16.toInt32 = nI (zq_s a) := by
  rw [hx]
  unfold zq_s
  cases h1 : Nat.ble a 32767 with
  | false => exact (zq_back _).symm
  | true => exact zq_s15 (zq_bl h1)
theorem zt_cl {x : Int32} {a : Nat} (hx : x = nI a) : x.toNatClampNeg = zq_cl a := by
  rw [hx]
  unfold zq_cl
  cases h1 : Nat.ble a 2147483647 with
  | false => rfl
  | true =>
    have g1 := zq_bl h1
    exact nI_clamp (by omega)
/-! packed arrays: digits of 16 bits -/
noncomputable def zq_rd (A k : Nat) : Nat := Nat.mod (Nat.shiftRight A (Nat.mul 16 k)) 65536
noncomputable def zq_wr (A k v : Nat) : Nat := Nat.xor A (Nat.shiftLeft (Nat.xor (zq_rd A k) v) (Nat.mul 16 k))
theorem zq_rd_bit (A k i : Nat) : (zq_rd A k).testBit i = (decide (i < 16) && A.testBit (16 * k + i)) := by
  have h : zq_rd A k = (A >>> (16 * k)) % 2 ^ 16 := rfl
  rw [h, Nat.testBit_mod_two_pow, Nat.testBit_shiftRight]
theorem zq_lt_bit {v i : Nat} (hv : v < 65536) (hi : 16 ≤ i) : v.testBit i = false :=
  Nat.testBit_lt_two_pow (Nat.lt_of_lt_of_le hv (Nat.pow_le_pow_right (n := 2) (by omega) hi))
theorem zq_wr_bit (A k v i : Nat) : (zq_wr A k v).testBit i = (A.testBit i ^^ (decide (16 * k ≤ i) && ((zq_rd A k).testBit (i - 16 * k) ^^ v.testBit (i - 16 * k)))) := by
  have h : zq_wr A k v = A ^^^ ((zq_rd A k ^^^ v) <<< (16 * k)) := rfl
  rw [h, Nat.testBit_xor, Nat.testBit_shiftLeft, Nat.testBit_xor]
theorem zq_rw_s (A k v : Nat) (hv : v < 65536) : zq_rd (zq_wr A k v) k = v := by
  apply Nat.eq_of_testBit_eq
  intro i
  rw [zq_rd_bit, zq_wr_bit, zq_rd_bit]
  by_cases hi : i < 16
  · have e : 16 * k + i - 16 * k = i := by omega
    have e2 : 16 * k ≤ 16 * k + i := by omega
    rw [e]
    simp [hi, e2]
  · rw [decide_eq_false hi, Bool.false_and]
    exact (zq_lt_bit hv (by omega)).symm
theorem zq_rw_n (A k v j : Nat) (hv : v < 65536) (hj : j ≠ k) : zq_rd (zq_wr A k v) j = zq_rd A j := by
  apply Nat.eq_of_testBit_eq
  intro i
  rw [zq_rd_bit, zq_wr_bit, zq_rd_bit, zq_rd_bit]
  by_cases hi : i < 16
  · by_cases hk : 16 * k ≤ 16 * j + i
    · have e : ¬ (16 * j + i - 16 * k < 16) := by omega
      rw [zq_lt_bit hv (show 16 ≤ 16 * j + i - 16 * k by omega)]
      simp [hi, hk, e]
    · simp [hi, hk]
  · simp [hi]
theorem zq_rd_lt (A k : Nat) : zq_rd A k < 65536 := Nat.mod_lt _ (by decide)
noncomputable def zq_ar (A : Nat) : Nat → Int32 := fun k => nI (zq_rd A k)
theorem zq_ar_up (A k v : Nat) (hv : v < 65536) : upd (zq_ar A) k (nI v) = zq_ar (zq_wr A k v) := by
  funext j
  by_cases hj : j = k
  · rw [hj, pk_us]
    unfold zq_ar
    rw [zq_rw_s A k v hv]
  · rw [pk_un hj]
    unfold zq_ar
    rw [zq_rw_n A k v j hv hj]
theorem zq_rd_0 (k : Nat) : zq_rd 0 k = 0 := by
  apply Nat.eq_of_testBit_eq
  intro i
  rw [zq_rd_bit]
  simp
theorem zq_ar_0 : (fun _ => (0 : Int32)) = zq_ar 0 := by
  funext k
  unfold zq_ar
  rw [zq_rd_0]
  rfl
theorem zt_rd {A i I : Nat} (hi : i = I) : zq_ar A i = nI (zq_rd A I) := by
  rw [hi]
  rfl
/-! the forms of a predicate -/
theorem zf_if {C : Bool} {c A B : Prop} {TA TB : Bool} (e : C = true ↔ c) (h : zq_if C TA TB = true) (f : TA = true → A) (g : TB = true → B) : (c → A) ∧ (¬ c → B) := by
  rcases zq_if_t h with ⟨h1, h2⟩ | ⟨h1, h2⟩
  · exact ⟨fun _ => f h2, fun z => absurd (e.mp h1) z⟩
  · exact ⟨fun z => absurd (e.mpr z) (by rw [h1]; exact Bool.false_ne_true), fun _ => g h2⟩
theorem zf_in {x : Int32} {E N : Nat} {P : Prop} {T : Bool} (he : x = nI E) (hN : N < 2 ^ 31) (h : zq_if (Nat.ble (Nat.succ E) N) T false = true) (f : T = true → P) : vp_in x N ∧ P := by
  obtain ⟨h1, h2⟩ := zq_if_a h
  rw [he]
  exact ⟨vp_in_nI (zq_bl h1) hN, f h2⟩
theorem zf_ne {x : Int32} {E : Nat} {P : Prop} {T : Bool} (he : x = nI E) (h : zq_if (zq_eq E 0) false T = true) (f : T = true → P) : ¬ x = 0 ∧ P := by
  obtain ⟨h1, h2⟩ := zq_if_b h
  refine ⟨fun z => ?_, f h2⟩
  rw [(zc_eq (b := 0) he nI_0.symm).mpr z] at h1
  exact absurd h1.symm Bool.false_ne_true
theorem zf_5 {P : Prop} (h : P) : ¬ (5 : Int32) = 0 ∧ P := ⟨by decide, h⟩
theorem zf_nm {x : Int32} {E : Nat} {P : Int32 → Prop} {T : Nat → Bool} (he : x = nI E) (h : zq_fo E T = true) (f : ∀ Y : Nat, T Y = true → P (nI Y)) : ∀ y : Int32, y = x → P y := by
  intro y hy
  rw [hy, he]
  exact f E (zq_fo_t h)
noncomputable def zq_up (A I V : Nat) (T : Nat → Bool) : Bool := zq_fo I fun i => zq_fo V fun v => zq_if (Nat.ble v 65535) (zq_fo (zq_wr A i v) T) false
theorem zf_up {A i I V : Nat} {v : Int32} {P : (Nat → Int32) → Prop} {T : Nat → Bool} (hi : i = I) (hv : v = nI V) (h : zq_up A I V T = true) (f : ∀ B : Nat, T B = true → P (zq_ar B)) : ∀ y : Nat → Int32, y = upd (zq_ar A) i v → P y := by
  intro y hy
  have h4 : zq_fo I (fun i => zq_fo V fun v => zq_if (Nat.ble v 65535) (zq_fo (zq_wr A i v) T) false) = true := h
  have h5 := zq_fo_t h4
  have h6 := zq_fo_t (x := V) h5
  obtain ⟨h1, h2⟩ := zq_if_a h6
  have h3 := zq_bl h1
  rw [hy, hi, hv, zq_ar_up A I V (by omega)]
  exact f _ (zq_fo_t h2)
/-! the entries: register r is place 0, the places 4 to 8 are 1 to 5; a digit above 4 says nothing -/
def zq_mp (r k : Nat) : Nat := if k < 16 then 16 * r + k else k + 48
def zq_pl (r : Nat) : Nat → Nat
  | 0 => r
  | m + 1 => m + 4
def zq_AE (r : Nat) (a : Nat → Int32) (A : Nat) : Prop := ∀ k, k < 96 → zq_rd A k < 5 → a (zq_mp r k) = nI (zq_rd A k)
theorem zq_mp_inj {r j k : Nat} (hr : r < 4) (h : zq_mp r j = zq_mp r k) : j = k := by
  unfold zq_mp at h
  split at h <;> split at h <;> omega
theorem zq_mp_at {r m i : Nat} (hm : m < 6) (hi : i < 16) : zq_mp r (16 * m + i) = 16 * zq_pl r m + i := by
  unfold zq_mp
  cases m with
  | zero => rw [if_pos (by omega)]; show 16 * r + (16 * 0 + i) = 16 * r + i; omega
  | succ m => rw [if_neg (by omega)]; show 16 * (m + 1) + i + 48 = 16 * (m + 4) + i; omega
theorem zq_pl_lt {r m : Nat} (hr : r < 4) (hm : m < 6) : zq_pl r m < 9 := by
  cases m with
  | zero => show r < 9; omega
  | succ m => show m + 4 < 9; omega
theorem zq_AE_up {r : Nat} (hr : r < 4) {a : Nat → Int32} {A k v : Nat} (hv : v < 65536) (h : zq_AE r a A) : zq_AE r (upd a (zq_mp r k) (nI v)) (zq_wr A k v) := by
  intro j hj hd
  by_cases e : j = k
  · rw [e, pk_us, zq_rw_s A k v hv]
  · rw [pk_un (fun z => e (zq_mp_inj hr z))]
    rw [zq_rw_n A k v j hv e] at hd ⊢
    exact h j hj hd
end
section
/-- what goes on behind a call: over the ten places of a state -/
abbrev zq_K : Type := Nat → Nat → Nat → Nat → Nat → Nat → Nat → Nat → Nat → Nat → Bool
def zq_H (r : Nat) (K : zq_K) (post : St2 → Prop) : Prop := ∀ (n fc ic a1 a2 a3 a4 a5 a6 a7 : Nat) (a : Nat → Int32), zq_AE r a a1 → K n fc ic a1 a2 a3 a4 a5 a6 a7 = true → post (nI n, nI fc, nI ic, a, zq_ar a2, zq_ar a3, zq_ar a4, zq_ar a5, zq_ar a6, zq_ar a7)
def zq_HV (K : Nat → Bool) (post : Int32 → Prop) : Prop := ∀ (v : Int32) (x : Nat), v = nI x → K x = true → post v
def zq_HW (r : Nat) (K : Nat → zq_K) (post : Int32 → St2 → Prop) : Prop := ∀ (v : Int32) (x n fc ic a1 a2 a3 a4 a5 a6 a7 : Nat) (a : Nat → Int32), v = nI x → zq_AE r a a1 → K x n fc ic a1 a2 a3 a4 a5 a6 a7 = true → post v (nI n, nI fc, nI ic, a, zq_ar a2, zq_ar a3, zq_ar a4, zq_ar a5, zq_ar a6, zq_ar a7)
theorem zq_ix {r p0 p1 p2 : Nat} {x0 x1 x2 : Int32} (h0 : p0 < 6) (h1 : p1 < 4) (h2 : p2 < 4) (e0 : x0 = nI (zq_pl r p0)) (e1 : x1 = nI p1) (e2 : x2 = nI p2) : ((16 * x0) + (4 * x1)) + x2 = nI (zq_mp r (16 * p0 + 4 * p1 + p2)) := by
  rw [e0, e1, e2, Nat.add_assoc, zq_mp_at h0 (by omega)]
  rw [show (16 : Int32) = nI 16 from rfl, show (4 : Int32) = nI 4 from rfl, pk_mul, pk_mul, nI_add, nI_add, Nat.add_assoc]
theorem zq_ix_lt {r p0 i : Nat} (hr : r < 4) (h0 : p0 < 6) (hi : i < 16) : zq_mp r (16 * p0 + i) < 144 := by
  rw [zq_mp_at h0 hi]
  have := zq_pl_lt hr h0
  omega
noncomputable def ev_entry (K : Nat → Bool) (a1 p0 p1 p2 : Nat) : Bool := zq_if (Nat.ble p0 5) (zq_if (Nat.ble p1 3) (zq_if (Nat.ble p2 3) (zq_fo (zq_rd a1 (Nat.add (Nat.add (Nat.mul 16 p0) (Nat.mul 4 p1)) p2)) fun v => zq_if (Nat.ble v 4) (K v) false) false) false) false
theorem sm_entry {r : Nat} (hr : r < 4) {post : Int32 → Prop} {K : Nat → Bool} {a1 p0 p1 p2 : Nat} {a : Nat → Int32} {n fc ic x0 x1 x2 : Int32} {b2 b3 b4 b5 b6 b7 : Nat → Int32} (ha : zq_AE r a a1) (e0 : x0 = nI (zq_pl r p0)) (e1 : x1 = nI p1) (e2 : x2 = nI p2) (h : ev_entry K a1 p0 p1 p2 = true) (hK : zq_HV K post) : wpX_entry post (n, fc, ic, a, b2, b3, b4, b5, b6, b7) x0 x1 x2 := by
  obtain ⟨h0, h⟩ := zq_if_a (c := Nat.ble p0 5) h
  obtain ⟨h1, h⟩ := zq_if_a h
  obtain ⟨h2, h⟩ := zq_if_a h
  obtain ⟨h3, h⟩ := zq_if_a (zq_fo_t (T := fun v => zq_if (Nat.ble v 4) (K v) false) h)
  have g0 := zq_bl h0
  have g1 := zq_bl h1
  have g2 := zq_bl h2
  have g3 := zq_bl h3
  have L : zq_mp r (16 * p0 + 4 * p1 + p2) < 144 := by rw [Nat.add_assoc]; exact zq_ix_lt hr (by omega) (by omega)
  show vp_in _ 144 ∧ post (a _)
  rw [zq_ix (by omega) (by omega) (by omega) e0 e1 e2]
  refine ⟨vp_in_nI L (by decide), ?_⟩
  rw [nI_clamp (by omega)]
  exact hK _ _ (ha (16 * p0 + 4 * p1 + p2) (by omega) (Nat.lt_succ_of_le g3)) h
noncomputable def ev_setEntry (K : zq_K) (n fc ic a1 a2 a3 a4 a5 a6 a7 p0 p1 p2 p3 : Nat) : Bool := zq_if (Nat.ble p0 5) (zq_if (Nat.ble p1 3) (zq_if (Nat.ble p2 3) (zq_if (Nat.ble p3 4) (zq_fo (zq_wr a1 (Nat.add (Nat.add (Nat.mul 16 p0) (Nat.mul 4 p1)) p2) p3) fun v => K n fc ic v a2 a3 a4 a5 a6 a7) false) false) false) false
theorem sm_setEntry {r : Nat} (hr : r < 4) {post : St2 → Prop} {K : zq_K} {n fc ic a1 a2 a3 a4 a5 a6 a7 p0 p1 p2 p3 : Nat} {a : Nat → Int32} {x0 x1 x2 x3 : Int32} (ha : zq_AE r a a1) (e0 : x0 = nI (zq_pl r p0)) (e1 : x1 = nI p1) (e2 : x2 = nI p2) (e3 : x3 = nI p3) (h : ev_setEntry K n fc ic a1 a2 a3 a4 a5 a6 a7 p0 p1 p2 p3 = true) (hK : zq_H r K post) : wpX_setEntry post (nI n, nI fc, nI ic, a, zq_ar a2, zq_ar a3, zq_ar a4, zq_ar a5, zq_ar a6, zq_ar a7) x0 x1 x2 x3 := by
  obtain ⟨h0, h⟩ := zq_if_a (c := Nat.ble p0 5) h
  obtain ⟨h1, h⟩ := zq_if_a h
  obtain ⟨h2, h⟩ := zq_if_a h
  obtain ⟨h3, h⟩ := zq_if_a h
  have h := zq_fo_t (T := fun v => K n fc ic v a2 a3 a4 a5 a6 a7) h
  have g0 := zq_bl h0
  have g1 := zq_bl h1
  have g2 := zq_bl h2
  have g3 := zq_bl h3
  have L : zq_mp r (16 * p0 + 4 * p1 + p2) < 144 := by rw [Nat.add_assoc]; exact zq_ix_lt hr (by omega) (by omega)
  show vp_in _ 144 ∧ ∀ y : Nat → Int32, y = upd a _ x3.toInt8.toInt32 → post (_, _, _, y, _, _, _, _, _, _)
  rw [zq_ix (by omega) (by omega) (by omega) e0 e1 e2]
  refine ⟨vp_in_nI L (by decide), ?_⟩
  intro y hy
  rw [nI_clamp (by omega), e3, zq_b7 p3 (by omega)] at hy
  rw [hy]
  exact hK _ _ _ _ _ _ _ _ _ _ _ (zq_AE_up hr (by omega) ha) h
/-! a copy of one place to another -/
noncomputable def zq_bk (A m : Nat) : Nat := Nat.mod (Nat.shiftRight A (Nat.mul 256 m)) 115792089237316195423570985008687907853269984665640564039457584007913129639936
noncomputable def zq_cp (A t f : Nat) : Nat := Nat.xor A (Nat.shiftLeft (Nat.xor (zq_bk A t) (zq_bk A f)) (Nat.mul 256 t))
theorem zq_bk_bit (A m i : Nat) : (zq_bk A m).testBit i = (decide (i < 256) && A.testBit (256 * m + i)) := by
  have h : zq_bk A m = (A >>> (256 * m)) % 2 ^ 256 := rfl
  rw [h, Nat.testBit_mod_two_pow, Nat.testBit_shiftRight]
theorem zq_cp_bit (A t f i : Nat) : (zq_cp A t f).testBit i = (A.testBit i ^^ (decide (256 * t ≤ i) && ((zq_bk A t).testBit (i - 256 * t) ^^ (zq_bk A f).testBit (i - 256 * t)))) := by
  have h : zq_cp A t f = A ^^^ ((zq_bk A t ^^^ zq_bk A f) <<< (256 * t)) := rfl
  rw [h, Nat.testBit_xor, Nat.testBit_shiftLeft, Nat.testBit_xor]
theorem zq_cp_in (A t f i : Nat) (hi : i < 16) : zq_rd (zq_cp A t f) (16 * t + i) = zq_rd A (16 * f + i) := by
  apply Nat.eq_of_testBit_eq
  intro j
  rw [zq_rd_bit, zq_cp_bit, zq_bk_bit, zq_bk_bit, zq_rd_bit]
  by_cases hj : j < 16
  · have e1 : 16 * (16 * t + i) + j - 256 * t = 16 * i + j := by omega
    have e2 : 256 * t + (16 * i + j) = 16 * (16 * t + i) + j := by omega
    have e3 : 256 * f + (16 * i + j) = 16 * (16 * f + i) + j := by omega
    have e4 : 16 * i + j < 256 := by omega
    have e5 : 256 * t ≤ 16 * (16 * t + i) + j := by omega
    rw [e1, e2, e3]
    simp [hj, e4, e5]
  · simp [hj]
theorem zq_cp_out (A t f k : Nat) (hk : k < 16 * t ∨ 16 * t + 16 ≤ k) : zq_rd (zq_cp A t f) k = zq_rd A k := by
  apply Nat.eq_of_testBit_eq
  intro j
  rw [zq_rd_bit, zq_cp_bit, zq_bk_bit, zq_bk_bit, zq_rd_bit]
  by_cases hj : j < 16
  · by_cases e5 : 256 * t ≤ 16 * k + j
    · have e4 : ¬ (16 * k + j - 256 * t < 256) := by omega
      simp [hj, e4, e5]
    · simp [hj, e5]
  · simp [hj]
noncomputable def ev_copy (K : zq_K) (n fc ic a1 a2 a3 a4 a5 a6 a7 p0 p1 : Nat) : Bool := zq_if (Nat.ble p0 5) (zq_if (Nat.ble p1 5) (zq_if (Nat.beq p0 p1) false (zq_fo (zq_cp a1 p0 p1) fun v => K n fc ic v a2 a3 a4 a5 a6 a7)) false) false
theorem zq_copy {post : St2 → Prop} {n fc ic : Int32} {a b2 b3 b4 b5 b6 b7 : Nat → Int32} {t f : Nat} (ht : t < 9) (hf : f < 9) (hn : t ≠ f) (H : ∀ s : Nat → Int32, (∀ i, i < 16 → s (16 * t + i) = vp_nar .byte (a (16 * f + i))) → (∀ j, (j < 16 * t ∨ 16 * t + 16 ≤ j) → s j = a j) → post (n, fc, ic, s, b2, b3, b4, b5, b6, b7)) : wpX_copy post (n, fc, ic, a, b2, b3, b4, b5, b6, b7) (nI t) (nI f) := by
  refine pk_loop (fun m i s => wX_copy_2 post (nI t) (nI f) n fc ic m (nI i) s b2 b3 b4 b5 b6 b7) (fun i s => (∀ k, k < i → s (16 * t + k) = vp_nar .byte (a (16 * f + k))) ∧ (∀ j, (j < 16 * t ∨ 16 * t + i ≤ j) → s j = a j)) 16 0 a (by omega) ⟨fun k hk => absurd hk (by omega), fun j _ => rfl⟩ ?_ ?_
  · intro m s h
    exact pk_le 16 16 (fun _ => H s h.1 h.2) (fun z => absurd z (by omega))
  · intro m i s hi h hw
    have E1 : (16 : Int32) * nI f + nI i = nI (16 * f + i) := by rw [show (16 : Int32) = nI 16 from rfl, pk_mul, nI_add]
    have E2 : (16 : Int32) * nI t + nI i = nI (16 * t + i) := by rw [show (16 : Int32) = nI 16 from rfl, pk_mul, nI_add]
    refine pk_le 16 i (fun z => absurd z (by omega)) (fun _ => ?_)
    rw [E1, E2, nI_clamp (show 16 * f + i < 2 ^ 31 by omega), nI_clamp (show 16 * t + i < 2 ^ 31 by omega)]
    refine ⟨vp_in_nI (by omega) (by decide), vp_in_nI (by omega) (by decide), nm_e (nm_r (nI_1 i) (hw _ ⟨?_, ?_⟩))⟩
    · intro k hk
      by_cases e : k = i
      · rw [e, pk_us, h.2 (16 * f + i) (by omega)]
      · rw [pk_un (by omega)]
        exact h.1 k (by omega)
    · intro j hj
      rw [pk_un (by omega)]
      exact h.2 j (by omega)
theorem zq_pl_ne {r p q : Nat} (hr : r < 4) (h : p ≠ q) : zq_pl r p ≠ zq_pl r q := by
  cases p with
  | zero =>
    cases q with
    | zero => exact absurd rfl h
    | succ q => show r ≠ q + 4; omega
  | succ p =>
    cases q with
    | zero => show p + 4 ≠ r; omega
    | succ q => show p + 4 ≠ q + 4; omega
theorem sm_copy {r : Nat} (hr : r < 4) {post : St2 → Prop} {K : zq_K} {n fc ic a1 a2 a3 a4 a5 a6 a7 p0 p1 : Nat} {a : Nat → Int32} {x0 x1 : Int32} (ha : zq_AE r a a1) (e0 : x0 = nI (zq_pl r p0)) (e1 : x1 = nI (zq_pl r p1)) (h : ev_copy K n fc ic a1 a2 a3 a4 a5 a6 a7 p0 p1 = true) (hK : zq_H r K post) : wpX_copy post (nI n, nI fc, nI ic, a, zq_ar a2, zq_ar a3, zq_ar a4, zq_ar a5, zq_ar a6, zq_ar a7) x0 x1 := by
  obtain ⟨h0, h⟩ := zq_if_a (c := Nat.ble p0 5) h
  obtain ⟨h1, h⟩ := zq_if_a h
  obtain ⟨h2, h⟩ := zq_if_b h
  have h := zq_fo_t (T := fun v => K n fc ic v a2 a3 a4 a5 a6 a7) h
  have g0 := zq_bl h0
  have g1 := zq_bl h1
  have g2 : p0 ≠ p1 := fun z => by rw [z, Nat.beq_refl] at h2; exact absurd h2.symm Bool.false_ne_true
  rw [e0, e1]
  refine zq_copy (zq_pl_lt hr (by omega)) (zq_pl_lt hr (by omega)) (zq_pl_ne hr g2) (fun s s1 s2 => hK _ _ _ _ _ _ _ _ _ _ _ ?_ h)
  intro k hk hd
  by_cases e : 16 * p0 ≤ k ∧ k < 16 * p0 + 16
  · obtain ⟨i, hi, rfl⟩ : ∃ i, i < 16 ∧ k = 16 * p0 + i := ⟨k - 16 * p0, by omega, by omega⟩
    rw [zq_cp_in _ _ _ _ hi] at hd ⊢
    rw [zq_mp_at (by omega) hi, s1 i hi, ← zq_mp_at (by omega) hi, ha _ (by omega) hd, vp_nar_byte]
    exact zq_b7 _ (by omega)
  · rw [zq_cp_out _ _ _ _ (by omega)] at hd ⊢
    rw [← ha k hk hd]
    refine s2 _ ?_
    refine Decidable.byContradiction (fun z => e ?_)
    have e1 : zq_mp r k = zq_mp r (16 * p0 + (zq_mp r k - 16 * zq_pl r p0)) := by
      rw [zq_mp_at (by omega) (by omega)]
      omega
    have e2 := zq_mp_inj hr e1
    omega
/-- a store into place 4 of the entries -/
noncomputable def zq_ue (a1 e v : Nat) (T : Nat → Bool) : Bool := zq_if (Nat.ble e 15) (zq_if (Nat.ble v 4) (zq_fo (zq_wr a1 (Nat.add 16 e) v) T) false) false
theorem zf_ue {r : Nat} (hr : r < 4) {a : Nat → Int32} {a1 e v : Nat} {x y : Int32} {P : (Nat → Int32) → Prop} {T : Nat → Bool} (ha : zq_AE r a a1) (hx : x = nI e) (hy : y = nI v) (h : zq_ue a1 e v T = true) (f : ∀ (s : Nat → Int32) (B : Nat), zq_AE r s B → T B = true → P s) : vp_in (64 + x) 144 ∧ (∀ z : Nat → Int32, z = upd a (64 + x).toNatClampNeg y → P z) := by
  obtain ⟨h0, h⟩ := zq_if_a (c := Nat.ble e 15) h
  obtain ⟨h1, h⟩ := zq_if_a h
  have h := zq_fo_t h
  have g0 := zq_bl h0
  have g1 := zq_bl h1
  have E : (64 : Int32) + x = nI (zq_mp r (16 + e)) := by
    rw [hx, show (64 : Int32) = nI 64 from rfl, nI_add, show 16 + e = 16 * 1 + e from rfl, zq_mp_at (by omega) (by omega)]
    rfl
  have L : zq_mp r (16 + e) < 144 := zq_ix_lt (p0 := 1) hr (by omega) (by omega)
  rw [E, nI_clamp (by omega)]
  refine ⟨vp_in_nI L (by decide), ?_⟩
  intro z hz
  rw [hz, hy]
  exact f _ _ (zq_AE_up hr (by omega) ha) h
end
section
noncomputable def ev_exchangeRows_3 (K : zq_K) (x1 x2 x3 : Nat) (n : Nat) : Nat → Nat → Nat → Nat → Nat → Nat → Nat → Nat → Nat → Nat → Nat → Bool := @Nat.rec (fun _ => Nat → Nat → Nat → Nat → Nat → Nat → Nat → Nat → Nat → Nat → Nat → Bool) (fun _ _ _ _ _ _ _ _ _ _ _ => false) (fun _ ih => fun x4 f0_n f0_factorCount f0_invariantCount a1 a2 a3 a4 a5 a6 a7 => zq_if (zq_le f0_n x4) (K f0_n f0_factorCount f0_invariantCount a1 a2 a3 a4 a5 a6 a7) (ev_entry (fun r_2 => ev_entry (fun r_3 => ev_setEntry (fun f0_n_5 f0_factorCount_6 f0_invariantCount_7 am391_10 am392_13 am393_16 am394_19 am395_22 am396_25 am397_28 => ev_setEntry (fun f0_n_30 f0_factorCount_31 f0_invariantCount_32 am491_35 am492_38 am493_41 am494_44 am495_47 am496_50 am497_53 => zq_fo (zq_add x4 1) (fun x4_54 => ih x4_54 f0_n_30 f0_factorCount_31 f0_invariantCount_32 am491_35 am492_38 am493_41 am494_44 am495_47 am496_50 am497_53)) f0_n_5 f0_factorCount_6 f0_invariantCount_7 am391_10 am392_13 am393_16 am394_19 am395_22 am396_25 am397_28 x1 x3 x4 r_2) f0_n f0_factorCount f0_invariantCount a1 a2 a3 a4 a5 a6 a7 x1 x2 x4 r_3) a1 x1 x3 x4) a1 x1 x2 x4)) n
theorem eq_exchangeRows_3 (K : zq_K) (n x1 x2 x3 x4 f0_n f0_factorCount f0_invariantCount a1 a2 a3 a4 a5 a6 a7 : Nat) : ev_exchangeRows_3 K x1 x2 x3 (n + 1) x4 f0_n f0_factorCount f0_invariantCount a1 a2 a3 a4 a5 a6 a7 = (zq_if (zq_le f0_n x4) (K f0_n f0_factorCount f0_invariantCount a1 a2 a3 a4 a5 a6 a7) (ev_entry (fun r_2 => ev_entry (fun r_3 => ev_setEntry (fun f0_n_5 f0_factorCount_6 f0_invariantCount_7 am391_10 am392_13 am393_16 am394_19 am395_22 am396_25 am397_28 => ev_setEntry (fun f0_n_30 f0_factorCount_31 f0_invariantCount_32 am491_35 am492_38 am493_41 am494_44 am495_47 am496_50 am497_53 => zq_fo (zq_add x4 1) (fun x4_54 => (ev_exchangeRows_3 K x1 x2 x3 n) x4_54 f0_n_30 f0_factorCount_31 f0_invariantCount_32 am491_35 am492_38 am493_41 am494_44 am495_47 am496_50 am497_53)) f0_n_5 f0_factorCount_6 f0_invariantCount_7 am391_10 am392_13 am393_16 am394_19 am395_22 am396_25 am397_28 x1 x3 x4 r_2) f0_n f0_factorCount f0_invariantCount a1 a2 a3 a4 a5 a6 a7 x1 x2 x4 r_3) a1 x1 x3 x4) a1 x1 x2 x4)) := rfl
theorem sm_exchangeRows_3 {r : Nat} (hr : r < 4) {post : St2 → Prop} {K : zq_K} (hK : zq_H r K post) (x1 x2 x3 : Nat) : ∀ (n x4 f0_n f0_factorCount f0_invariantCount a1 a2 a3 a4 a5 a6 a7 : Nat) (a1f : Nat → Int32), zq_AE r a1f a1 → ev_exchangeRows_3 K x1 x2 x3 n x4 f0_n f0_factorCount f0_invariantCount a1 a2 a3 a4 a5 a6 a7 = true → wX_exchangeRows_3 post (nI (zq_pl r x1)) (nI x2) (nI x3) n (nI x4) (nI f0_n) (nI f0_factorCount) (nI f0_invariantCount) a1f (zq_ar a2) (zq_ar a3) (zq_ar a4) (zq_ar a5) (zq_ar a6) (zq_ar a7) := by
  intro n
  induction n with
  | zero =>
    intro x4 f0_n f0_factorCount f0_invariantCount a1 a2 a3 a4 a5 a6 a7 a1f a1h h
    exact absurd h Bool.false_ne_true
  | succ n ih =>
    intro x4 f0_n f0_factorCount f0_invariantCount a1 a2 a3 a4 a5 a6 a7 a1f a1h h
    rw [eq_exchangeRows_3] at h
    refine zf_if (zc_le (Eq.refl (nI f0_n)) (Eq.refl (nI x4))) h (fun h => ?_) (fun h => ?_)
    · exact hK _ _ _ _ _ _ _ _ _ _ _ a1h h
    · refine sm_entry hr a1h (Eq.refl (nI (zq_pl r x1))) (Eq.refl (nI x2)) (Eq.refl (nI x4)) h (fun q_v r_2 q_e h => ?_)
      subst q_e
      refine sm_entry hr a1h (Eq.refl (nI (zq_pl r x1))) (Eq.refl (nI x3)) (Eq.refl (nI x4)) h (fun q_v r_3 q_e h => ?_)
      subst q_e
      refine sm_setEntry hr a1h (Eq.refl (nI (zq_pl r x1))) (Eq.refl (nI x2)) (Eq.refl (nI x4)) (Eq.refl (nI r_3)) h (fun f0_n_5 f0_factorCount_6 f0_invariantCount_7 am391_10 am392_13 am393_16 am394_19 am395_22 am396_25 am397_28 am391_10f am391_10h h => ?_)
      refine sm_setEntry hr am391_10h (Eq.refl (nI (zq_pl r x1))) (Eq.refl (nI x3)) (Eq.refl (nI x4)) (Eq.refl (nI r_2)) h (fun f0_n_30 f0_factorCount_31 f0_invariantCount_32 am491_35 am492_38 am493_41 am494_44 am495_47 am496_50 am497_53 am491_35f am491_35h h => ?_)
      refine zf_nm (zt_add (Eq.refl (nI x4)) (show (1 : Int32) = nI 1 from rfl)) h (fun x4_54 h => ?_)
      exact ih x4_54 f0_n_30 f0_factorCount_31 f0_invariantCount_32 am491_35 am492_38 am493_41 am494_44 am495_47 am496_50 am497_53 am491_35f am491_35h h
noncomputable def ev_exchangeRows (K : zq_K) (f0_n f0_factorCount f0_invariantCount a1 a2 a3 a4 a5 a6 a7 p0 p1 p2 : Nat) : Bool := ev_exchangeRows_3 K p0 p1 p2 40 0 f0_n f0_factorCount f0_invariantCount a1 a2 a3 a4 a5 a6 a7
theorem sm_exchangeRows {r : Nat} (hr : r < 4) {post : St2 → Prop} {K : zq_K} {f0_n f0_factorCount f0_invariantCount a1 a2 a3 a4 a5 a6 a7 p0 p1 p2 : Nat} {a1f : Nat → Int32} {v_p0 v_p1 v_p2 : Int32} (a1h : zq_AE r a1f a1) (e_p0 : v_p0 = nI (zq_pl r p0)) (e_p1 : v_p1 = nI p1) (e_p2 : v_p2 = nI p2) (h : ev_exchangeRows K f0_n f0_factorCount f0_invariantCount a1 a2 a3 a4 a5 a6 a7 p0 p1 p2 = true) (hK : zq_H r K post) : wpX_exchangeRows post ((nI f0_n), (nI f0_factorCount), (nI f0_invariantCount), a1f, (zq_ar a2), (zq_ar a3), (zq_ar a4), (zq_ar a5), (zq_ar a6), (zq_ar a7)) v_p0 v_p1 v_p2 := by
  subst e_p0 e_p1 e_p2
  unfold ev_exchangeRows at h
  unfold wpX_exchangeRows
  dsimp only
  refine ⟨40, ?_⟩
  exact sm_exchangeRows_3 hr  hK p0 p1 p2 40 0 f0_n f0_factorCount f0_invariantCount a1 a2 a3 a4 a5 a6 a7 a1f a1h h
noncomputable def ev_exchangeColumns_3 (K : zq_K) (x1 x2 x3 : Nat) (n : Nat) : Nat → Nat → Nat → Nat → Nat → Nat → Nat → Nat → Nat → Nat → Nat → Bool := @Nat.rec (fun _ => Nat → Nat → Nat → Nat → Nat → Nat → Nat → Nat → Nat → Nat → Nat → Bool) (fun _ _ _ _ _ _ _ _ _ _ _ => false) (fun _ ih => fun x4 f0_n f0_factorCount f0_invariantCount a1 a2 a3 a4 a5 a6 a7 => zq_if (zq_le f0_n x4) (K f0_n f0_factorCount f0_invariantCount a1 a2 a3 a4 a5 a6 a7) (ev_entry (fun r_2 => ev_entry (fun r_3 => ev_setEntry (fun f0_n_5 f0_factorCount_6 f0_invariantCount_7 am391_10 am392_13 am393_16 am394_19 am395_22 am396_25 am397_28 => ev_setEntry (fun f0_n_30 f0_factorCount_31 f0_invariantCount_32 am491_35 am492_38 am493_41 am494_44 am495_47 am496_50 am497_53 => zq_fo (zq_add x4 1) (fun x4_54 => ih x4_54 f0_n_30 f0_factorCount_31 f0_invariantCount_32 am491_35 am492_38 am493_41 am494_44 am495_47 am496_50 am497_53)) f0_n_5 f0_factorCount_6 f0_invariantCount_7 am391_10 am392_13 am393_16 am394_19 am395_22 am396_25 am397_28 x1 x4 x3 r_2) f0_n f0_factorCount f0_invariantCount a1 a2 a3 a4 a5 a6 a7 x1 x4 x2 r_3) a1 x1 x4 x3) a1 x1 x4 x2)) n
theorem eq_exchangeColumns_3 (K : zq_K) (n x1 x2 x3 x4 f0_n f0_factorCount f0_invariantCount a1 a2 a3 a4 a5 a6 a7 : Nat) : ev_exchangeColumns_3 K x1 x2 x3 (n + 1) x4 f0_n f0_factorCount f0_invariantCount a1 a2 a3 a4 a5 a6 a7 = (zq_if (zq_le f0_n x4) (K f0_n f0_factorCount f0_invariantCount a1 a2 a3 a4 a5 a6 a7) (ev_entry (fun r_2 => ev_entry (fun r_3 => ev_setEntry (fun f0_n_5 f0_factorCount_6 f0_invariantCount_7 am391_10 am392_13 am393_16 am394_19 am395_22 am396_25 am397_28 => ev_setEntry (fun f0_n_30 f0_factorCount_31 f0_invariantCount_32 am491_35 am492_38 am493_41 am494_44 am495_47 am496_50 am497_53 => zq_fo (zq_add x4 1) (fun x4_54 => (ev_exchangeColumns_3 K x1 x2 x3 n) x4_54 f0_n_30 f0_factorCount_31 f0_invariantCount_32 am491_35 am492_38 am493_41 am494_44 am495_47 am496_50 am497_53)) f0_n_5 f0_factorCount_6 f0_invariantCount_7 am391_10 am392_13 am393_16 am394_19 am395_22 am396_25 am397_28 x1 x4 x3 r_2) f0_n f0_factorCount f0_invariantCount a1 a2 a3 a4 a5 a6 a7 x1 x4 x2 r_3) a1 x1 x4 x3) a1 x1 x4 x2)) := rfl
theorem sm_exchangeColumns_3 {r : Nat} (hr : r < 4) {post : St2 → Prop} {K : zq_K} (hK : zq_H r K post) (x1 x2 x3 : Nat) : ∀ (n x4 f0_n f0_factorCount f0_invariantCount a1 a2 a3 a4 a5 a6 a7 : Nat) (a1f : Nat → Int32), zq_AE r a1f a1 → ev_exchangeColumns_3 K x1 x2 x3 n x4 f0_n f0_factorCount f0_invariantCount a1 a2 a3 a4 a5 a6 a7 = true → wX_exchangeColumns_3 post (nI (zq_pl r x1)) (nI x2) (nI x3) n (nI x4) (nI f0_n) (nI f0_factorCount) (nI f0_invariantCount) a1f (zq_ar a2) (zq_ar a3) (zq_ar a4) (zq_ar a5) (zq_ar a6) (zq_ar a7) := by
  intro n
  induction n with
  | zero =>
    intro x4 f0_n f0_factorCount f0_invariantCount a1 a2 a3 a4 a5 a6 a7 a1f a1h h
    exact absurd h Bool.false_ne_true
  | succ n ih =>
    intro x4 f0_n f0_factorCount f0_invariantCount a1 a2 a3 a4 a5 a6 a7 a1f a1h h
    rw [eq_exchangeColumns_3] at h
    refine zf_if (zc_le (Eq.refl (nI f0_n)) (Eq.refl (nI x4))) h (fun h => ?_) (fun h => ?_)
    · exact hK _ _ _ _ _ _ _ _ _ _ _ a1h h
    · refine sm_entry hr a1h (Eq.refl (nI (zq_pl r x1))) (Eq.refl (nI x4)) (Eq.refl (nI x2)) h (fun q_v r_2 q_e h => ?_)
      subst q_e
      refine sm_entry hr a1h (Eq.refl (nI (zq_pl r x1))) (Eq.refl (nI x4)) (Eq.refl (nI x3)) h (fun q_v r_3 q_e h => ?_)
      subst q_e
      refine sm_setEntry hr a1h (Eq.refl (nI (zq_pl r x1))) (Eq.refl (nI x4)) (Eq.refl (nI x2)) (Eq.refl (nI r_3)) h (fun f0_n_5 f0_factorCount_6 f0_invariantCount_7 am391_10 am392_13 am393_16 am394_19 am395_22 am396_25 am397_28 am391_10f am391_10h h => ?_)
      refine sm_setEntry hr am391_10h (Eq.refl (nI (zq_pl r x1))) (Eq.refl (nI x4)) (Eq.refl (nI x3)) (Eq.refl (nI r_2)) h (fun f0_n_30 f0_factorCount_31 f0_invariantCount_32 am491_35 am492_38 am493_41 am494_44 am495_47 am496_50 am497_53 am491_35f am491_35h h => ?_)
      refine zf_nm (zt_add (Eq.refl (nI x4)) (show (1 : Int32) = nI 1 from rfl)) h (fun x4_54 h => ?_)
      exact ih x4_54 f0_n_30 f0_factorCount_31 f0_invariantCount_32 am491_35 am492_38 am493_41 am494_44 am495_47 am496_50 am497_53 am491_35f am491_35h h
noncomputable def ev_exchangeColumns (K : zq_K) (f0_n f0_factorCount f0_invariantCount a1 a2 a3 a4 a5 a6 a7 p0 p1 p2 : Nat) : Bool := ev_exchangeColumns_3 K p0 p1 p2 40 0 f0_n f0_factorCount f0_invariantCount a1 a2 a3 a4 a5 a6 a7
theorem sm_exchangeColumns {r : Nat} (hr : r < 4) {post : St2 → Prop} {K : zq_K} {f0_n f0_factorCount f0_invariantCount a1 a2 a3 a4 a5 a6 a7 p0 p1 p2 : Nat} {a1f : Nat → Int32} {v_p0 v_p1 v_p2 : Int32} (a1h : zq_AE r a1f a1) (e_p0 : v_p0 = nI (zq_pl r p0)) (e_p1 : v_p1 = nI p1) (e_p2 : v_p2 = nI p2) (h : ev_exchangeColumns K f0_n f0_factorCount f0_invariantCount a1 a2 a3 a4 a5 a6 a7 p0 p1 p2 = true) (hK : zq_H r K post) : wpX_exchangeColumns post ((nI f0_n), (nI f0_factorCount), (nI f0_invariantCount), a1f, (zq_ar a2), (zq_ar a3), (zq_ar a4), (zq_ar a5), (zq_ar a6), (zq_ar a7)) v_p0 v_p1 v_p2 := by
  subst e_p0 e_p1 e_p2
  unfold ev_exchangeColumns at h
  unfold wpX_exchangeColumns
  dsimp only
  refine ⟨40, ?_⟩
  exact sm_exchangeColumns_3 hr  hK p0 p1 p2 40 0 f0_n f0_factorCount f0_invariantCount a1 a2 a3 a4 a5 a6 a7 a1f a1h h
noncomputable def ev_inverseOf (K : Nat → Bool) (f0_n f0_factorCount f0_invariantCount a1 a2 a3 a4 a5 a6 a7 p0 : Nat) : Bool := zq_fo (zq_rem (zq_mul (zq_rem (zq_mul p0 p0) 5) p0) 5) (fun q => K q)
theorem sm_inverseOf {r : Nat} (hr : r < 4) {post : Int32 → Prop} {K : Nat → Bool} {f0_n f0_factorCount f0_invariantCount a1 a2 a3 a4 a5 a6 a7 p0 : Nat} {a1f : Nat → Int32} {v_p0 : Int32} (a1h : zq_AE r a1f a1) (e_p0 : v_p0 = nI p0) (h : ev_inverseOf K f0_n f0_factorCount f0_invariantCount a1 a2 a3 a4 a5 a6 a7 p0 = true) (hK : zq_HV K post) : wpX_inverseOf post ((nI f0_n), (nI f0_factorCount), (nI f0_invariantCount), a1f, (zq_ar a2), (zq_ar a3), (zq_ar a4), (zq_ar a5), (zq_ar a6), (zq_ar a7)) v_p0 := by
  subst e_p0
  unfold ev_inverseOf at h
  unfold wpX_inverseOf
  dsimp only
  refine zf_5 ?_
  refine zf_5 ?_
  have h := zq_fo_t h
  exact hK _ _ (zt_rem (zt_mul (zt_rem (zt_mul (Eq.refl (nI p0)) (Eq.refl (nI p0))) (show (5 : Int32) = nI 5 from rfl)) (Eq.refl (nI p0))) (show (5 : Int32) = nI 5 from rfl)) h
noncomputable def ev_subtractRow_3 (K : zq_K) (x1 x2 x3 x4 : Nat) (n : Nat) : Nat → Nat → Nat → Nat → Nat → Nat → Nat → Nat → Nat → Nat → Nat → Bool := @Nat.rec (fun _ => Nat → Nat → Nat → Nat → Nat → Nat → Nat → Nat → Nat → Nat → Nat → Bool) (fun _ _ _ _ _ _ _ _ _ _ _ => false) (fun _ ih => fun x5 f0_n f0_factorCount f0_invariantCount a1 a2 a3 a4 a5 a6 a7 => zq_if (zq_le f0_n x5) (K f0_n f0_factorCount f0_invariantCount a1 a2 a3 a4 a5 a6 a7) (ev_entry (fun r_2 => ev_entry (fun r_3 => zq_fo (zq_add r_2 (zq_mul (zq_sub 5 x4) r_3)) (fun x6_4 => zq_fo (zq_rem x6_4 5) (fun q0 => ev_setEntry (fun f0_n_7 f0_factorCount_8 f0_invariantCount_9 am451_12 am452_15 am453_18 am454_21 am455_24 am456_27 am457_30 => zq_fo (zq_add x5 1) (fun x5_31 => ih x5_31 f0_n_7 f0_factorCount_8 f0_invariantCount_9 am451_12 am452_15 am453_18 am454_21 am455_24 am456_27 am457_30)) f0_n f0_factorCount f0_invariantCount a1 a2 a3 a4 a5 a6 a7 x1 x2 x5 q0))) a1 x1 x3 x5) a1 x1 x2 x5)) n
theorem eq_subtractRow_3 (K : zq_K) (n x1 x2 x3 x4 x5 f0_n f0_factorCount f0_invariantCount a1 a2 a3 a4 a5 a6 a7 : Nat) : ev_subtractRow_3 K x1 x2 x3 x4 (n + 1) x5 f0_n f0_factorCount f0_invariantCount a1 a2 a3 a4 a5 a6 a7 = (zq_if (zq_le f0_n x5) (K f0_n f0_factorCount f0_invariantCount a1 a2 a3 a4 a5 a6 a7) (ev_entry (fun r_2 => ev_entry (fun r_3 => zq_fo (zq_add r_2 (zq_mul (zq_sub 5 x4) r_3)) (fun x6_4 => zq_fo (zq_rem x6_4 5) (fun q0 => ev_setEntry (fun f0_n_7 f0_factorCount_8 f0_invariantCount_9 am451_12 am452_15 am453_18 am454_21 am455_24 am456_27 am457_30 => zq_fo (zq_add x5 1) (fun x5_31 => (ev_subtractRow_3 K x1 x2 x3 x4 n) x5_31 f0_n_7 f0_factorCount_8 f0_invariantCount_9 am451_12 am452_15 am453_18 am454_21 am455_24 am456_27 am457_30)) f0_n f0_factorCount f0_invariantCount a1 a2 a3 a4 a5 a6 a7 x1 x2 x5 q0))) a1 x1 x3 x5) a1 x1 x2 x5)) := rfl
theorem sm_subtractRow_3 {r : Nat} (hr : r < 4) {post : St2 → Prop} {K : zq_K} (hK : zq_H r K post) (x1 x2 x3 x4 : Nat) : ∀ (n x5 f0_n f0_factorCount f0_invariantCount a1 a2 a3 a4 a5 a6 a7 : Nat) (a1f : Nat → Int32), zq_AE r a1f a1 → ev_subtractRow_3 K x1 x2 x3 x4 n x5 f0_n f0_factorCount f0_invariantCount a1 a2 a3 a4 a5 a6 a7 = true → wX_subtractRow_3 post (nI (zq_pl r x1)) (nI x2) (nI x3) (nI x4) n (nI x5) (nI f0_n) (nI f0_factorCount) (nI f0_invariantCount) a1f (zq_ar a2) (zq_ar a3) (zq_ar a4) (zq_ar a5) (zq_ar a6) (zq_ar a7) := by
  intro n
  induction n with
  | zero =>
    intro x5 f0_n f0_factorCount f0_invariantCount a1 a2 a3 a4 a5 a6 a7 a1f a1h h
    exact absurd h Bool.false_ne_true
  | succ n ih =>
    intro x5 f0_n f0_factorCount f0_invariantCount a1 a2 a3 a4 a5 a6 a7 a1f a1h h
    rw [eq_subtractRow_3] at h
    refine zf_if (zc_le (Eq.refl (nI f0_n)) (Eq.refl (nI x5))) h (fun h => ?_) (fun h => ?_)
    · exact hK _ _ _ _ _ _ _ _ _ _ _ a1h h
    · refine sm_entry hr a1h (Eq.refl (nI (zq_pl r x1))) (Eq.refl (nI x2)) (Eq.refl (nI x5)) h (fun q_v r_2 q_e h => ?_)
      subst q_e
      refine sm_entry hr a1h (Eq.refl (nI (zq_pl r x1))) (Eq.refl (nI x3)) (Eq.refl (nI x5)) h (fun q_v r_3 q_e h => ?_)
      subst q_e
      refine zf_nm (zt_add (Eq.refl (nI r_2)) (zt_mul (zt_sub (show (5 : Int32) = nI 5 from rfl) (Eq.refl (nI x4))) (Eq.refl (nI r_3)))) h (fun x6_4 h => ?_)
      refine zf_5 ?_
      have h := zq_fo_t h
      refine sm_setEntry hr a1h (Eq.refl (nI (zq_pl r x1))) (Eq.refl (nI x2)) (Eq.refl (nI x5)) (zt_rem (Eq.refl (nI x6_4)) (show (5 : Int32) = nI 5 from rfl)) h (fun f0_n_7 f0_factorCount_8 f0_invariantCount_9 am451_12 am452_15 am453_18 am454_21 am455_24 am456_27 am457_30 am451_12f am451_12h h => ?_)
      refine zf_nm (zt_add (Eq.refl (nI x5)) (show (1 : Int32) = nI 1 from rfl)) h (fun x5_31 h => ?_)
      exact ih x5_31 f0_n_7 f0_factorCount_8 f0_invariantCount_9 am451_12 am452_15 am453_18 am454_21 am455_24 am456_27 am457_30 am451_12f am451_12h h
noncomputable def ev_subtractRow (K : zq_K) (f0_n f0_factorCount f0_invariantCount a1 a2 a3 a4 a5 a6 a7 p0 p1 p2 p3 : Nat) : Bool := ev_subtractRow_3 K p0 p1 p2 p3 40 0 f0_n f0_factorCount f0_invariantCount a1 a2 a3 a4 a5 a6 a7
theorem sm_subtractRow {r : Nat} (hr : r < 4) {post : St2 → Prop} {K : zq_K} {f0_n f0_factorCount f0_invariantCount a1 a2 a3 a4 a5 a6 a7 p0 p1 p2 p3 : Nat} {a1f : Nat → Int32} {v_p0 v_p1 v_p2 v_p3 : Int32} (a1h : zq_AE r a1f a1) (e_p0 : v_p0 = nI (zq_pl r p0)) (e_p1 : v_p1 = nI p1) (e_p2 : v_p2 = nI p2) (e_p3 : v_p3 = nI p3) (h : ev_subtractRow K f0_n f0_factorCount f0_invariantCount a1 a2 a3 a4 a5 a6 a7 p0 p1 p2 p3 = true) (hK : zq_H r K post) : wpX_subtractRow post ((nI f0_n), (nI f0_factorCount), (nI f0_invariantCount), a1f, (zq_ar a2), (zq_ar a3), (zq_ar a4), (zq_ar a5), (zq_ar a6), (zq_ar a7)) v_p0 v_p1 v_p2 v_p3 := by
  subst e_p0 e_p1 e_p2 e_p3
  unfold ev_subtractRow at h
  unfold wpX_subtractRow
  dsimp only
  refine ⟨40, ?_⟩
  exact sm_subtractRow_3 hr  hK p0 p1 p2 p3 40 0 f0_n f0_factorCount f0_invariantCount a1 a2 a3 a4 a5 a6 a7 a1f a1h h
noncomputable def ev_addColumn_3 (K : zq_K) (x1 x2 x3 x4 : Nat) (n : Nat) : Nat → Nat → Nat → Nat → Nat → Nat → Nat → Nat → Nat → Nat → Nat → Bool := @Nat.rec (fun _ => Nat → Nat → Nat → Nat → Nat → Nat → Nat → Nat → Nat → Nat → Nat → Bool) (fun _ _ _ _ _ _ _ _ _ _ _ => false) (fun _ ih => fun x5 f0_n f0_factorCount f0_invariantCount a1 a2 a3 a4 a5 a6 a7 => zq_if (zq_le f0_n x5) (K f0_n f0_factorCount f0_invariantCount a1 a2 a3 a4 a5 a6 a7) (ev_entry (fun r_2 => ev_entry (fun r_3 => zq_fo (zq_add r_2 (zq_mul x4 r_3)) (fun x6_4 => zq_fo (zq_rem x6_4 5) (fun q0 => ev_setEntry (fun f0_n_7 f0_factorCount_8 f0_invariantCount_9 am431_12 am432_15 am433_18 am434_21 am435_24 am436_27 am437_30 => zq_fo (zq_add x5 1) (fun x5_31 => ih x5_31 f0_n_7 f0_factorCount_8 f0_invariantCount_9 am431_12 am432_15 am433_18 am434_21 am435_24 am436_27 am437_30)) f0_n f0_factorCount f0_invariantCount a1 a2 a3 a4 a5 a6 a7 x1 x5 x2 q0))) a1 x1 x5 x3) a1 x1 x5 x2)) n
theorem eq_addColumn_3 (K : zq_K) (n x1 x2 x3 x4 x5 f0_n f0_factorCount f0_invariantCount a1 a2 a3 a4 a5 a6 a7 : Nat) : ev_addColumn_3 K x1 x2 x3 x4 (n + 1) x5 f0_n f0_factorCount f0_invariantCount a1 a2 a3 a4 a5 a6 a7 = (zq_if (zq_le f0_n x5) (K f0_n f0_factorCount f0_invariantCount a1 a2 a3 a4 a5 a6 a7) (ev_entry (fun r_2 => ev_entry (fun r_3 => zq_fo (zq_add r_2 (zq_mul x4 r_3)) (fun x6_4 => zq_fo (zq_rem x6_4 5) (fun q0 => ev_setEntry (fun f0_n_7 f0_factorCount_8 f0_invariantCount_9 am431_12 am432_15 am433_18 am434_21 am435_24 am436_27 am437_30 => zq_fo (zq_add x5 1) (fun x5_31 => (ev_addColumn_3 K x1 x2 x3 x4 n) x5_31 f0_n_7 f0_factorCount_8 f0_invariantCount_9 am431_12 am432_15 am433_18 am434_21 am435_24 am436_27 am437_30)) f0_n f0_factorCount f0_invariantCount a1 a2 a3 a4 a5 a6 a7 x1 x5 x2 q0))) a1 x1 x5 x3) a1 x1 x5 x2)) := rfl
theorem sm_addColumn_3 {r : Nat} (hr : r < 4) {post : St2 → Prop} {K : zq_K} (hK : zq_H r K post) (x1 x2 x3 x4 : Nat) : ∀ (n x5 f0_n f0_factorCount f0_invariantCount a1 a2 a3 a4 a5 a6 a7 : Nat) (a1f : Nat → Int32), zq_AE r a1f a1 → ev_addColumn_3 K x1 x2 x3 x4 n x5 f0_n f0_factorCount f0_invariantCount a1 a2 a3 a4 a5 a6 a7 = true → wX_addColumn_3 post (nI (zq_pl r x1)) (nI x2) (nI x3) (nI x4) n (nI x5) (nI f0_n) (nI f0_factorCount) (nI f0_invariantCount) a1f (zq_ar a2) (zq_ar a3) (zq_ar a4) (zq_ar a5) (zq_ar a6) (zq_ar a7) := by
  intro n
  induction n with
  | zero =>
    intro x5 f0_n f0_factorCount f0_invariantCount a1 a2 a3 a4 a5 a6 a7 a1f a1h h
    exact absurd h Bool.false_ne_true
  | succ n ih =>
    intro x5 f0_n f0_factorCount f0_invariantCount a1 a2 a3 a4 a5 a6 a7 a1f a1h h
    rw [eq_addColumn_3] at h
    refine zf_if (zc_le (Eq.refl (nI f0_n)) (Eq.refl (nI x5))) h (fun h => ?_) (fun h => ?_)
    · exact hK _ _ _ _ _ _ _ _ _ _ _ a1h h
    · refine sm_entry hr a1h (Eq.refl (nI (zq_pl r x1))) (Eq.refl (nI x5)) (Eq.refl (nI x2)) h (fun q_v r_2 q_e h => ?_)
      subst q_e
      refine sm_entry hr a1h (Eq.refl (nI (zq_pl r x1))) (Eq.refl (nI x5)) (Eq.refl (nI x3)) h (fun q_v r_3 q_e h => ?_)
      subst q_e
      refine zf_nm (zt_add (Eq.refl (nI r_2)) (zt_mul (Eq.refl (nI x4)) (Eq.refl (nI r_3)))) h (fun x6_4 h => ?_)
      refine zf_5 ?_
      have h := zq_fo_t h
      refine sm_setEntry hr a1h (Eq.refl (nI (zq_pl r x1))) (Eq.refl (nI x5)) (Eq.refl (nI x2)) (zt_rem (Eq.refl (nI x6_4)) (show (5 : Int32) = nI 5 from rfl)) h (fun f0_n_7 f0_factorCount_8 f0_invariantCount_9 am431_12 am432_15 am433_18 am434_21 am435_24 am436_27 am437_30 am431_12f am431_12h h => ?_)
      refine zf_nm (zt_add (Eq.refl (nI x5)) (show (1 : Int32) = nI 1 from rfl)) h (fun x5_31 h => ?_)
      exact ih x5_31 f0_n_7 f0_factorCount_8 f0_invariantCount_9 am431_12 am432_15 am433_18 am434_21 am435_24 am436_27 am437_30 am431_12f am431_12h h
noncomputable def ev_addColumn (K : zq_K) (f0_n f0_factorCount f0_invariantCount a1 a2 a3 a4 a5 a6 a7 p0 p1 p2 p3 : Nat) : Bool := ev_addColumn_3 K p0 p1 p2 p3 40 0 f0_n f0_factorCount f0_invariantCount a1 a2 a3 a4 a5 a6 a7
theorem sm_addColumn {r : Nat} (hr : r < 4) {post : St2 → Prop} {K : zq_K} {f0_n f0_factorCount f0_invariantCount a1 a2 a3 a4 a5 a6 a7 p0 p1 p2 p3 : Nat} {a1f : Nat → Int32} {v_p0 v_p1 v_p2 v_p3 : Int32} (a1h : zq_AE r a1f a1) (e_p0 : v_p0 = nI (zq_pl r p0)) (e_p1 : v_p1 = nI p1) (e_p2 : v_p2 = nI p2) (e_p3 : v_p3 = nI p3) (h : ev_addColumn K f0_n f0_factorCount f0_invariantCount a1 a2 a3 a4 a5 a6 a7 p0 p1 p2 p3 = true) (hK : zq_H r K post) : wpX_addColumn post ((nI f0_n), (nI f0_factorCount), (nI f0_invariantCount), a1f, (zq_ar a2), (zq_ar a3), (zq_ar a4), (zq_ar a5), (zq_ar a6), (zq_ar a7)) v_p0 v_p1 v_p2 v_p3 := by
  subst e_p0 e_p1 e_p2 e_p3
  unfold ev_addColumn at h
  unfold wpX_addColumn
  dsimp only
  refine ⟨40, ?_⟩
  exact sm_addColumn_3 hr  hK p0 p1 p2 p3 40 0 f0_n f0_factorCount f0_invariantCount a1 a2 a3 a4 a5 a6 a7 a1f a1h h
noncomputable def ev_makeNearlyTriangular_93 (K : zq_K) (B_J2 : Nat → Nat → Nat → Nat → Nat → Nat → Nat → Nat → Nat → Nat → Nat → Bool) (x1 x2 x5 : Nat) (n : Nat) : Nat → Nat → Nat → Nat → Nat → Nat → Nat → Nat → Nat → Nat → Nat → Bool := @Nat.rec (fun _ => Nat → Nat → Nat → Nat → Nat → Nat → Nat → Nat → Nat → Nat → Nat → Bool) (fun _ _ _ _ _ _ _ _ _ _ _ => false) (fun _ ih => fun x6 f0_n f0_factorCount f0_invariantCount am661 am662 am663 am664 am665 am666 am667 => zq_if (zq_le f0_n x6) (zq_fo (zq_add x2 1) (fun x2_59 => B_J2 x2_59 f0_n f0_factorCount f0_invariantCount am661 am662 am663 am664 am665 am666 am667)) (ev_entry (fun r_60 => zq_fo (zq_rem (zq_mul r_60 x5) 5) (fun x7_62 => zq_fo (zq_add x2 1) (fun q0 => ev_subtractRow (fun f0_n_64 f0_factorCount_65 f0_invariantCount_66 am1261_69 am1262_72 am1263_75 am1264_78 am1265_81 am1266_84 am1267_87 => zq_fo (zq_add x2 1) (fun q0 => ev_addColumn (fun f0_n_89 f0_factorCount_90 f0_invariantCount_91 am1381_94 am1382_97 am1383_100 am1384_103 am1385_106 am1386_109 am1387_112 => zq_fo (zq_add x6 1) (fun x6_113 => ih x6_113 f0_n_89 f0_factorCount_90 f0_invariantCount_91 am1381_94 am1382_97 am1383_100 am1384_103 am1385_106 am1386_109 am1387_112)) f0_n_64 f0_factorCount_65 f0_invariantCount_66 am1261_69 am1262_72 am1263_75 am1264_78 am1265_81 am1266_84 am1267_87 x1 q0 x6 x7_62)) f0_n f0_factorCount f0_invariantCount am661 am662 am663 am664 am665 am666 am667 x1 x6 q0 x7_62))) am661 x1 x6 x2)) n
theorem eq_makeNearlyTriangular_93 (K : zq_K) (B_J2 : Nat → Nat → Nat → Nat → Nat → Nat → Nat → Nat → Nat → Nat → Nat → Bool) (n x1 x2 x5 x6 f0_n f0_factorCount f0_invariantCount am661 am662 am663 am664 am665 am666 am667 : Nat) : ev_makeNearlyTriangular_93 K B_J2 x1 x2 x5 (n + 1) x6 f0_n f0_factorCount f0_invariantCount am661 am662 am663 am664 am665 am666 am667 = (zq_if (zq_le f0_n x6) (zq_fo (zq_add x2 1) (fun x2_59 => B_J2 x2_59 f0_n f0_factorCount f0_invariantCount am661 am662 am663 am664 am665 am666 am667)) (ev_entry (fun r_60 => zq_fo (zq_rem (zq_mul r_60 x5) 5) (fun x7_62 => zq_fo (zq_add x2 1) (fun q0 => ev_subtractRow (fun f0_n_64 f0_factorCount_65 f0_invariantCount_66 am1261_69 am1262_72 am1263_75 am1264_78 am1265_81 am1266_84 am1267_87 => zq_fo (zq_add x2 1) (fun q0 => ev_addColumn (fun f0_n_89 f0_factorCount_90 f0_invariantCount_91 am1381_94 am1382_97 am1383_100 am1384_103 am1385_106 am1386_109 am1387_112 => zq_fo (zq_add x6 1) (fun x6_113 => (ev_makeNearlyTriangular_93 K B_J2 x1 x2 x5 n) x6_113 f0_n_89 f0_factorCount_90 f0_invariantCount_91 am1381_94 am1382_97 am1383_100 am1384_103 am1385_106 am1386_109 am1387_112)) f0_n_64 f0_factorCount_65 f0_invariantCount_66 am1261_69 am1262_72 am1263_75 am1264_78 am1265_81 am1266_84 am1267_87 x1 q0 x6 x7_62)) f0_n f0_factorCount f0_invariantCount am661 am662 am663 am664 am665 am666 am667 x1 x6 q0 x7_62))) am661 x1 x6 x2)) := rfl
theorem sm_makeNearlyTriangular_93 {r : Nat} (hr : r < 4) {post : St2 → Prop} {K : zq_K} {J2 : Int32 → Int32 → Int32 → Int32 → (Nat → Int32) → (Nat → Int32) → (Nat → Int32) → (Nat → Int32) → (Nat → Int32) → (Nat → Int32) → (Nat → Int32) → Prop} {B_J2 : Nat → Nat → Nat → Nat → Nat → Nat → Nat → Nat → Nat → Nat → Nat → Bool} (hK : zq_H r K post) (hJ2 : ∀ (y0 y1 y2 y3 y4 y5 y6 y7 y8 y9 y10 : Nat) (yf : Nat → Int32), zq_AE r yf y4 → B_J2 y0 y1 y2 y3 y4 y5 y6 y7 y8 y9 y10 = true → J2 (nI y0) (nI y1) (nI y2) (nI y3) yf (zq_ar y5) (zq_ar y6) (zq_ar y7) (zq_ar y8) (zq_ar y9) (zq_ar y10)) (x1 x2 x5 : Nat) : ∀ (n x6 f0_n f0_factorCount f0_invariantCount am661 am662 am663 am664 am665 am666 am667 : Nat) (am661f : Nat → Int32), zq_AE r am661f am661 → ev_makeNearlyTriangular_93 K B_J2 x1 x2 x5 n x6 f0_n f0_factorCount f0_invariantCount am661 am662 am663 am664 am665 am666 am667 = true → wX_makeNearlyTriangular_93 post J2 (nI (zq_pl r x1)) (nI x2) (nI x5) n (nI x6) (nI f0_n) (nI f0_factorCount) (nI f0_invariantCount) am661f (zq_ar am662) (zq_ar am663) (zq_ar am664) (zq_ar am665) (zq_ar am666) (zq_ar am667) := by
  intro n
  induction n with
  | zero =>
    intro x6 f0_n f0_factorCount f0_invariantCount am661 am662 am663 am664 am665 am666 am667 am661f am661h h
    exact absurd h Bool.false_ne_true
  | succ n ih =>
    intro x6 f0_n f0_factorCount f0_invariantCount am661 am662 am663 am664 am665 am666 am667 am661f am661h h
    rw [eq_makeNearlyTriangular_93] at h
    refine zf_if (zc_le (Eq.refl (nI f0_n)) (Eq.refl (nI x6))) h (fun h => ?_) (fun h => ?_)
    · refine zf_nm (zt_add (Eq.refl (nI x2)) (show (1 : Int32) = nI 1 from rfl)) h (fun x2_59 h => ?_)
      exact hJ2 x2_59 f0_n f0_factorCount f0_invariantCount am661 am662 am663 am664 am665 am666 am667 am661f am661h h
    · refine sm_entry hr am661h (Eq.refl (nI (zq_pl r x1))) (Eq.refl (nI x6)) (Eq.refl (nI x2)) h (fun q_v r_60 q_e h => ?_)
      subst q_e
      refine zf_5 ?_
      refine zf_nm (zt_rem (zt_mul (Eq.refl (nI r_60)) (Eq.refl (nI x5))) (show (5 : Int32) = nI 5 from rfl)) h (fun x7_62 h => ?_)
      have h := zq_fo_t h
      refine sm_subtractRow hr am661h (Eq.refl (nI (zq_pl r x1))) (Eq.refl (nI x6)) (zt_add (Eq.refl (nI x2)) (show (1 : Int32) = nI 1 from rfl)) (Eq.refl (nI x7_62)) h (fun f0_n_64 f0_factorCount_65 f0_invariantCount_66 am1261_69 am1262_72 am1263_75 am1264_78 am1265_81 am1266_84 am1267_87 am1261_69f am1261_69h h => ?_)
      have h := zq_fo_t h
      refine sm_addColumn hr am1261_69h (Eq.refl (nI (zq_pl r x1))) (zt_add (Eq.refl (nI x2)) (show (1 : Int32) = nI 1 from rfl)) (Eq.refl (nI x6)) (Eq.refl (nI x7_62)) h (fun f0_n_89 f0_factorCount_90 f0_invariantCount_91 am1381_94 am1382_97 am1383_100 am1384_103 am1385_106 am1386_109 am1387_112 am1381_94f am1381_94h h => ?_)
      refine zf_nm (zt_add (Eq.refl (nI x6)) (show (1 : Int32) = nI 1 from rfl)) h (fun x6_113 h => ?_)
      exact ih x6_113 f0_n_89 f0_factorCount_90 f0_invariantCount_91 am1381_94 am1382_97 am1383_100 am1384_103 am1385_106 am1386_109 am1387_112 am1381_94f am1381_94h h
noncomputable def ev_makeNearlyTriangular_40 (K : zq_K) (B_J2 : Nat → Nat → Nat → Nat → Nat → Nat → Nat → Nat → Nat → Nat → Nat → Bool) (x1 x2 x3 f0_n f0_factorCount f0_invariantCount a1 a2 a3 a4 a5 a6 a7 : Nat) : Bool := zq_if (zq_eq x3 f0_n) (zq_fo (zq_add x2 1) (fun x2_114 => B_J2 x2_114 f0_n f0_factorCount f0_invariantCount a1 a2 a3 a4 a5 a6 a7)) (zq_fo (zq_add x2 1) (fun q0 => ev_exchangeRows (fun f0_n_6 f0_factorCount_7 f0_invariantCount_8 am571_11 am572_14 am573_17 am574_20 am575_23 am576_26 am577_29 => zq_fo (zq_add x2 1) (fun q0 => ev_exchangeColumns (fun f0_n_31 f0_factorCount_32 f0_invariantCount_33 am661_36 am662_39 am663_42 am664_45 am665_48 am666_51 am667_54 => zq_fo (zq_add x2 1) (fun q0 => ev_entry (fun r_55 => ev_inverseOf (fun r_56 => zq_fo (zq_add x2 2) (fun x6_57 => ev_makeNearlyTriangular_93 K B_J2 x1 x2 r_56 40 x6_57 f0_n_31 f0_factorCount_32 f0_invariantCount_33 am661_36 am662_39 am663_42 am664_45 am665_48 am666_51 am667_54)) f0_n_31 f0_factorCount_32 f0_invariantCount_33 am661_36 am662_39 am663_42 am664_45 am665_48 am666_51 am667_54 r_55) am661_36 x1 q0 x2)) f0_n_6 f0_factorCount_7 f0_invariantCount_8 am571_11 am572_14 am573_17 am574_20 am575_23 am576_26 am577_29 x1 x3 q0)) f0_n f0_factorCount f0_invariantCount a1 a2 a3 a4 a5 a6 a7 x1 x3 q0))
theorem sm_makeNearlyTriangular_40 {r : Nat} (hr : r < 4) {post : St2 → Prop} {K : zq_K} {J2 : Int32 → Int32 → Int32 → Int32 → (Nat → Int32) → (Nat → Int32) → (Nat → Int32) → (Nat → Int32) → (Nat → Int32) → (Nat → Int32) → (Nat → Int32) → Prop} {B_J2 : Nat → Nat → Nat → Nat → Nat → Nat → Nat → Nat → Nat → Nat → Nat → Bool} (hK : zq_H r K post) (hJ2 : ∀ (y0 y1 y2 y3 y4 y5 y6 y7 y8 y9 y10 : Nat) (yf : Nat → Int32), zq_AE r yf y4 → B_J2 y0 y1 y2 y3 y4 y5 y6 y7 y8 y9 y10 = true → J2 (nI y0) (nI y1) (nI y2) (nI y3) yf (zq_ar y5) (zq_ar y6) (zq_ar y7) (zq_ar y8) (zq_ar y9) (zq_ar y10)) (x1 x2 x3 f0_n f0_factorCount f0_invariantCount a1 a2 a3 a4 a5 a6 a7 : Nat) (a1f : Nat → Int32) (a1h : zq_AE r a1f a1) (h : ev_makeNearlyTriangular_40 K B_J2 x1 x2 x3 f0_n f0_factorCount f0_invariantCount a1 a2 a3 a4 a5 a6 a7 = true) : wX_makeNearlyTriangular_40 post J2 (nI (zq_pl r x1)) (nI x2) (nI x3) (nI f0_n) (nI f0_factorCount) (nI f0_invariantCount) a1f (zq_ar a2) (zq_ar a3) (zq_ar a4) (zq_ar a5) (zq_ar a6) (zq_ar a7) := by
  unfold ev_makeNearlyTriangular_40 at h
  unfold wX_makeNearlyTriangular_40
  refine zf_if (zc_eq (Eq.refl (nI x3)) (Eq.refl (nI f0_n))) h (fun h => ?_) (fun h => ?_)
  · refine zf_nm (zt_add (Eq.refl (nI x2)) (show (1 : Int32) = nI 1 from rfl)) h (fun x2_114 h => ?_)
    exact hJ2 x2_114 f0_n f0_factorCount f0_invariantCount a1 a2 a3 a4 a5 a6 a7 a1f a1h h
  · have h := zq_fo_t h
    refine sm_exchangeRows hr a1h (Eq.refl (nI (zq_pl r x1))) (Eq.refl (nI x3)) (zt_add (Eq.refl (nI x2)) (show (1 : Int32) = nI 1 from rfl)) h (fun f0_n_6 f0_factorCount_7 f0_invariantCount_8 am571_11 am572_14 am573_17 am574_20 am575_23 am576_26 am577_29 am571_11f am571_11h h => ?_)
    have h := zq_fo_t h
    refine sm_exchangeColumns hr am571_11h (Eq.refl (nI (zq_pl r x1))) (Eq.refl (nI x3)) (zt_add (Eq.refl (nI x2)) (show (1 : Int32) = nI 1 from rfl)) h (fun f0_n_31 f0_factorCount_32 f0_invariantCount_33 am661_36 am662_39 am663_42 am664_45 am665_48 am666_51 am667_54 am661_36f am661_36h h => ?_)
    have h := zq_fo_t h
    refine sm_entry hr am661_36h (Eq.refl (nI (zq_pl r x1))) (zt_add (Eq.refl (nI x2)) (show (1 : Int32) = nI 1 from rfl)) (Eq.refl (nI x2)) h (fun q_v r_55 q_e h => ?_)
    subst q_e
    refine sm_inverseOf hr am661_36h (Eq.refl (nI r_55)) h (fun q_v r_56 q_e h => ?_)
    subst q_e
    refine zf_nm (zt_add (Eq.refl (nI x2)) (show (2 : Int32) = nI 2 from rfl)) h (fun x6_57 h => ?_)
    refine ⟨40, ?_⟩
    exact sm_makeNearlyTriangular_93 hr  hK hJ2 x1 x2 r_56 40 x6_57 f0_n_31 f0_factorCount_32 f0_invariantCount_33 am661_36 am662_39 am663_42 am664_45 am665_48 am666_51 am667_54 am661_36f am661_36h h
noncomputable def ev_makeNearlyTriangular_16 (K : zq_K) (B_J2 : Nat → Nat → Nat → Nat → Nat → Nat → Nat → Nat → Nat → Nat → Nat → Bool) (x1 x2 f0_n f0_factorCount f0_invariantCount a1 a2 a3 a4 a5 a6 a7 : Nat) (n : Nat) : Nat → Bool := @Nat.rec (fun _ => Nat → Bool) (fun _ => false) (fun _ ih => fun x3 => zq_if (zq_le f0_n x3) (ev_makeNearlyTriangular_40 K B_J2 x1 x2 x3 f0_n f0_factorCount f0_invariantCount a1 a2 a3 a4 a5 a6 a7) (ev_entry (fun r_115 => zq_if (zq_eq r_115 0) (zq_fo (zq_add x3 1) (fun x3_117 => ih x3_117)) (ev_makeNearlyTriangular_40 K B_J2 x1 x2 x3 f0_n f0_factorCount f0_invariantCount a1 a2 a3 a4 a5 a6 a7)) a1 x1 x3 x2)) n
theorem eq_makeNearlyTriangular_16 (K : zq_K) (B_J2 : Nat → Nat → Nat → Nat → Nat → Nat → Nat → Nat → Nat → Nat → Nat → Bool) (n x1 x2 f0_n f0_factorCount f0_invariantCount a1 a2 a3 a4 a5 a6 a7 x3 : Nat) : ev_makeNearlyTriangular_16 K B_J2 x1 x2 f0_n f0_factorCount f0_invariantCount a1 a2 a3 a4 a5 a6 a7 (n + 1) x3 = (zq_if (zq_le f0_n x3) (ev_makeNearlyTriangular_40 K B_J2 x1 x2 x3 f0_n f0_factorCount f0_invariantCount a1 a2 a3 a4 a5 a6 a7) (ev_entry (fun r_115 => zq_if (zq_eq r_115 0) (zq_fo (zq_add x3 1) (fun x3_117 => (ev_makeNearlyTriangular_16 K B_J2 x1 x2 f0_n f0_factorCount f0_invariantCount a1 a2 a3 a4 a5 a6 a7 n) x3_117)) (ev_makeNearlyTriangular_40 K B_J2 x1 x2 x3 f0_n f0_factorCount f0_invariantCount a1 a2 a3 a4 a5 a6 a7)) a1 x1 x3 x2)) := rfl
theorem sm_makeNearlyTriangular_16 {r : Nat} (hr : r < 4) {post : St2 → Prop} {K : zq_K} {J2 : Int32 → Int32 → Int32 → Int32 → (Nat → Int32) → (Nat → Int32) → (Nat → Int32) → (Nat → Int32) → (Nat → Int32) → (Nat → Int32) → (Nat → Int32) → Prop} {B_J2 : Nat → Nat → Nat → Nat → Nat → Nat → Nat → Nat → Nat → Nat → Nat → Bool} (hK : zq_H r K post) (hJ2 : ∀ (y0 y1 y2 y3 y4 y5 y6 y7 y8 y9 y10 : Nat) (yf : Nat → Int32), zq_AE r yf y4 → B_J2 y0 y1 y2 y3 y4 y5 y6 y7 y8 y9 y10 = true → J2 (nI y0) (nI y1) (nI y2) (nI y3) yf (zq_ar y5) (zq_ar y6) (zq_ar y7) (zq_ar y8) (zq_ar y9) (zq_ar y10)) (x1 x2 f0_n f0_factorCount f0_invariantCount a1 a2 a3 a4 a5 a6 a7 : Nat) (a1f : Nat → Int32) (a1h : zq_AE r a1f a1) : ∀ (n x3 : Nat), ev_makeNearlyTriangular_16 K B_J2 x1 x2 f0_n f0_factorCount f0_invariantCount a1 a2 a3 a4 a5 a6 a7 n x3 = true → wX_makeNearlyTriangular_16 post J2 (nI (zq_pl r x1)) (nI x2) (nI f0_n) (nI f0_factorCount) (nI f0_invariantCount) a1f (zq_ar a2) (zq_ar a3) (zq_ar a4) (zq_ar a5) (zq_ar a6) (zq_ar a7) n (nI x3) := by
  intro n
  induction n with
  | zero =>
    intro x3 h
    exact absurd h Bool.false_ne_true
  | succ n ih =>
    intro x3 h
    rw [eq_makeNearlyTriangular_16] at h
    refine zf_if (zc_le (Eq.refl (nI f0_n)) (Eq.refl (nI x3))) h (fun h => ?_) (fun h => ?_)
    · exact sm_makeNearlyTriangular_40 hr  hK hJ2 x1 x2 x3 f0_n f0_factorCount f0_invariantCount a1 a2 a3 a4 a5 a6 a7 a1f a1h h
    · refine sm_entry hr a1h (Eq.refl (nI (zq_pl r x1))) (Eq.refl (nI x3)) (Eq.refl (nI x2)) h (fun q_v r_115 q_e h => ?_)
      subst q_e
      refine zf_if (zc_eq (Eq.refl (nI r_115)) (show (0 : Int32) = nI 0 from rfl)) h (fun h => ?_) (fun h => ?_)
      · refine zf_nm (zt_add (Eq.refl (nI x3)) (show (1 : Int32) = nI 1 from rfl)) h (fun x3_117 h => ?_)
        exact ih x3_117 h
      · exact sm_makeNearlyTriangular_40 hr  hK hJ2 x1 x2 x3 f0_n f0_factorCount f0_invariantCount a1 a2 a3 a4 a5 a6 a7 a1f a1h h
noncomputable def ev_makeNearlyTriangular_2 (K : zq_K) (x1 : Nat) (n : Nat) : Nat → Nat → Nat → Nat → Nat → Nat → Nat → Nat → Nat → Nat → Nat → Bool := @Nat.rec (fun _ => Nat → Nat → Nat → Nat → Nat → Nat → Nat → Nat → Nat → Nat → Nat → Bool) (fun _ _ _ _ _ _ _ _ _ _ _ => false) (fun _ ih => fun x2 f0_n f0_factorCount f0_invariantCount a1 a2 a3 a4 a5 a6 a7 => zq_if (zq_le (zq_sub f0_n 2) x2) (K f0_n f0_factorCount f0_invariantCount a1 a2 a3 a4 a5 a6 a7) (zq_fo (zq_add x2 1) (fun x3_2 => ev_makeNearlyTriangular_16 K ih x1 x2 f0_n f0_factorCount f0_invariantCount a1 a2 a3 a4 a5 a6 a7 40 x3_2))) n
theorem eq_makeNearlyTriangular_2 (K : zq_K) (n x1 x2 f0_n f0_factorCount f0_invariantCount a1 a2 a3 a4 a5 a6 a7 : Nat) : ev_makeNearlyTriangular_2 K x1 (n + 1) x2 f0_n f0_factorCount f0_invariantCount a1 a2 a3 a4 a5 a6 a7 = (zq_if (zq_le (zq_sub f0_n 2) x2) (K f0_n f0_factorCount f0_invariantCount a1 a2 a3 a4 a5 a6 a7) (zq_fo (zq_add x2 1) (fun x3_2 => ev_makeNearlyTriangular_16 K (ev_makeNearlyTriangular_2 K x1 n) x1 x2 f0_n f0_factorCount f0_invariantCount a1 a2 a3 a4 a5 a6 a7 40 x3_2))) := rfl
theorem sm_makeNearlyTriangular_2 {r : Nat} (hr : r < 4) {post : St2 → Prop} {K : zq_K} (hK : zq_H r K post) (x1 : Nat) : ∀ (n x2 f0_n f0_factorCount f0_invariantCount a1 a2 a3 a4 a5 a6 a7 : Nat) (a1f : Nat → Int32), zq_AE r a1f a1 → ev_makeNearlyTriangular_2 K x1 n x2 f0_n f0_factorCount f0_invariantCount a1 a2 a3 a4 a5 a6 a7 = true → wX_makeNearlyTriangular_2 post (nI (zq_pl r x1)) n (nI x2) (nI f0_n) (nI f0_factorCount) (nI f0_invariantCount) a1f (zq_ar a2) (zq_ar a3) (zq_ar a4) (zq_ar a5) (zq_ar a6) (zq_ar a7) := by
  intro n
  induction n with
  | zero =>
    intro x2 f0_n f0_factorCount f0_invariantCount a1 a2 a3 a4 a5 a6 a7 a1f a1h h
    exact absurd h Bool.false_ne_true
  | succ n ih =>
    intro x2 f0_n f0_factorCount f0_invariantCount a1 a2 a3 a4 a5 a6 a7 a1f a1h h
    rw [eq_makeNearlyTriangular_2] at h
    refine zf_if (zc_le (zt_sub (Eq.refl (nI f0_n)) (show (2 : Int32) = nI 2 from rfl)) (Eq.refl (nI x2))) h (fun h => ?_) (fun h => ?_)
    · exact hK _ _ _ _ _ _ _ _ _ _ _ a1h h
    · refine zf_nm (zt_add (Eq.refl (nI x2)) (show (1 : Int32) = nI 1 from rfl)) h (fun x3_2 h => ?_)
      refine ⟨40, ?_⟩
      exact sm_makeNearlyTriangular_16 hr (J2 := wX_makeNearlyTriangular_2 post (nI (zq_pl r x1)) n) (B_J2 := ev_makeNearlyTriangular_2 K x1 n) hK ih x1 x2 f0_n f0_factorCount f0_invariantCount a1 a2 a3 a4 a5 a6 a7 a1f a1h 40 x3_2 h
noncomputable def ev_makeNearlyTriangular (K : zq_K) (f0_n f0_factorCount f0_invariantCount a1 a2 a3 a4 a5 a6 a7 p0 : Nat) : Bool := ev_makeNearlyTriangular_2 K p0 40 0 f0_n f0_factorCount f0_invariantCount a1 a2 a3 a4 a5 a6 a7
theorem sm_makeNearlyTriangular {r : Nat} (hr : r < 4) {post : St2 → Prop} {K : zq_K} {f0_n f0_factorCount f0_invariantCount a1 a2 a3 a4 a5 a6 a7 p0 : Nat} {a1f : Nat → Int32} {v_p0 : Int32} (a1h : zq_AE r a1f a1) (e_p0 : v_p0 = nI (zq_pl r p0)) (h : ev_makeNearlyTriangular K f0_n f0_factorCount f0_invariantCount a1 a2 a3 a4 a5 a6 a7 p0 = true) (hK : zq_H r K post) : wpX_makeNearlyTriangular post ((nI f0_n), (nI f0_factorCount), (nI f0_invariantCount), a1f, (zq_ar a2), (zq_ar a3), (zq_ar a4), (zq_ar a5), (zq_ar a6), (zq_ar a7)) v_p0 := by
  subst e_p0
  unfold ev_makeNearlyTriangular at h
  unfold wpX_makeNearlyTriangular
  dsimp only
  refine ⟨40, ?_⟩
  exact sm_makeNearlyTriangular_2 hr  hK p0 40 0 f0_n f0_factorCount f0_invariantCount a1 a2 a3 a4 a5 a6 a7 a1f a1h h
noncomputable def ev_clearPoly_2 (K : zq_K) (x1 f0_n f0_factorCount f0_invariantCount : Nat) (n : Nat) : Nat → Nat → Nat → Nat → Nat → Nat → Nat → Nat → Bool := @Nat.rec (fun _ => Nat → Nat → Nat → Nat → Nat → Nat → Nat → Nat → Bool) (fun _ _ _ _ _ _ _ _ => false) (fun _ ih => fun x2 a1 a2 a3 a4 a5 a6 a7 => zq_if (zq_le 10 x2) (K f0_n f0_factorCount f0_invariantCount a1 a2 a3 a4 a5 a6 a7) (zq_if (Nat.ble (Nat.succ (zq_add (zq_mul 10 x1) x2)) 130) (zq_up a2 (zq_cl (zq_add (zq_mul 10 x1) x2)) 0 (fun a2_3 => zq_fo (zq_add x2 1) (fun x2_4 => ih x2_4 a1 a2_3 a3 a4 a5 a6 a7))) false)) n
theorem eq_clearPoly_2 (K : zq_K) (n x1 f0_n f0_factorCount f0_invariantCount x2 a1 a2 a3 a4 a5 a6 a7 : Nat) : ev_clearPoly_2 K x1 f0_n f0_factorCount f0_invariantCount (n + 1) x2 a1 a2 a3 a4 a5 a6 a7 = (zq_if (zq_le 10 x2) (K f0_n f0_factorCount f0_invariantCount a1 a2 a3 a4 a5 a6 a7) (zq_if (Nat.ble (Nat.succ (zq_add (zq_mul 10 x1) x2)) 130) (zq_up a2 (zq_cl (zq_add (zq_mul 10 x1) x2)) 0 (fun a2_3 => zq_fo (zq_add x2 1) (fun x2_4 => (ev_clearPoly_2 K x1 f0_n f0_factorCount f0_invariantCount n) x2_4 a1 a2_3 a3 a4 a5 a6 a7))) false)) := rfl
theorem sm_clearPoly_2 {r : Nat} (hr : r < 4) {post : St2 → Prop} {K : zq_K} (hK : zq_H r K post) (x1 f0_n f0_factorCount f0_invariantCount : Nat) : ∀ (n x2 a1 a2 a3 a4 a5 a6 a7 : Nat) (a1f : Nat → Int32), zq_AE r a1f a1 → ev_clearPoly_2 K x1 f0_n f0_factorCount f0_invariantCount n x2 a1 a2 a3 a4 a5 a6 a7 = true → wX_clearPoly_2 post (nI x1) (nI f0_n) (nI f0_factorCount) (nI f0_invariantCount) n (nI x2) a1f (zq_ar a2) (zq_ar a3) (zq_ar a4) (zq_ar a5) (zq_ar a6) (zq_ar a7) := by
  intro n
  induction n with
  | zero =>
    intro x2 a1 a2 a3 a4 a5 a6 a7 a1f a1h h
    exact absurd h Bool.false_ne_true
  | succ n ih =>
    intro x2 a1 a2 a3 a4 a5 a6 a7 a1f a1h h
    rw [eq_clearPoly_2] at h
    refine zf_if (zc_le (show (10 : Int32) = nI 10 from rfl) (Eq.refl (nI x2))) h (fun h => ?_) (fun h => ?_)
    · exact hK _ _ _ _ _ _ _ _ _ _ _ a1h h
    · refine zf_in (zt_add (zt_mul (show (10 : Int32) = nI 10 from rfl) (Eq.refl (nI x1))) (Eq.refl (nI x2))) (by decide) h (fun h => ?_)
      refine zf_up (zt_cl (zt_add (zt_mul (show (10 : Int32) = nI 10 from rfl) (Eq.refl (nI x1))) (Eq.refl (nI x2)))) (show (0 : Int32) = nI 0 from rfl) h (fun a2_3 h => ?_)
      refine zf_nm (zt_add (Eq.refl (nI x2)) (show (1 : Int32) = nI 1 from rfl)) h (fun x2_4 h => ?_)
      exact ih x2_4 a1 a2_3 a3 a4 a5 a6 a7 a1f a1h h
noncomputable def ev_clearPoly (K : zq_K) (f0_n f0_factorCount f0_invariantCount a1 a2 a3 a4 a5 a6 a7 p0 : Nat) : Bool := ev_clearPoly_2 K p0 f0_n f0_factorCount f0_invariantCount 40 0 a1 a2 a3 a4 a5 a6 a7
theorem sm_clearPoly {r : Nat} (hr : r < 4) {post : St2 → Prop} {K : zq_K} {f0_n f0_factorCount f0_invariantCount a1 a2 a3 a4 a5 a6 a7 p0 : Nat} {a1f : Nat → Int32} {v_p0 : Int32} (a1h : zq_AE r a1f a1) (e_p0 : v_p0 = nI p0) (h : ev_clearPoly K f0_n f0_factorCount f0_invariantCount a1 a2 a3 a4 a5 a6 a7 p0 = true) (hK : zq_H r K post) : wpX_clearPoly post ((nI f0_n), (nI f0_factorCount), (nI f0_invariantCount), a1f, (zq_ar a2), (zq_ar a3), (zq_ar a4), (zq_ar a5), (zq_ar a6), (zq_ar a7)) v_p0 := by
  subst e_p0
  unfold ev_clearPoly at h
  unfold wpX_clearPoly
  dsimp only
  refine ⟨40, ?_⟩
  exact sm_clearPoly_2 hr  hK p0 f0_n f0_factorCount f0_invariantCount 40 0 a1 a2 a3 a4 a5 a6 a7 a1f a1h h
noncomputable def ev_numberOf_5 (K : Nat → Bool) (x1 f0_n f0_factorCount f0_invariantCount a1 a2 a3 a4 a5 a6 a7 : Nat) (n : Nat) : Nat → Nat → Bool := @Nat.rec (fun _ => Nat → Nat → Bool) (fun _ _ => false) (fun _ ih => fun x2 x3 => zq_if (zq_lt x3 0) (K x2) (zq_if (Nat.ble (Nat.succ (zq_add (zq_mul 10 x1) x3)) 130) (zq_fo (zq_add (zq_mul 5 x2) (zq_rd a2 (zq_cl (zq_add (zq_mul 10 x1) x3)))) (fun x2_3 => zq_fo (zq_add x3 4294967295) (fun x3_4 => ih x2_3 x3_4))) false)) n
theorem eq_numberOf_5 (K : Nat → Bool) (n x1 f0_n f0_factorCount f0_invariantCount a1 a2 a3 a4 a5 a6 a7 x2 x3 : Nat) : ev_numberOf_5 K x1 f0_n f0_factorCount f0_invariantCount a1 a2 a3 a4 a5 a6 a7 (n + 1) x2 x3 = (zq_if (zq_lt x3 0) (K x2) (zq_if (Nat.ble (Nat.succ (zq_add (zq_mul 10 x1) x3)) 130) (zq_fo (zq_add (zq_mul 5 x2) (zq_rd a2 (zq_cl (zq_add (zq_mul 10 x1) x3)))) (fun x2_3 => zq_fo (zq_add x3 4294967295) (fun x3_4 => (ev_numberOf_5 K x1 f0_n f0_factorCount f0_invariantCount a1 a2 a3 a4 a5 a6 a7 n) x2_3 x3_4))) false)) := rfl
theorem sm_numberOf_5 {r : Nat} (hr : r < 4) {post : Int32 → Prop} {K : Nat → Bool} (hK : zq_HV K post) (x1 f0_n f0_factorCount f0_invariantCount a1 a2 a3 a4 a5 a6 a7 : Nat) (a1f : Nat → Int32) (a1h : zq_AE r a1f a1) : ∀ (n x2 x3 : Nat), ev_numberOf_5 K x1 f0_n f0_factorCount f0_invariantCount a1 a2 a3 a4 a5 a6 a7 n x2 x3 = true → wX_numberOf_5 post (nI x1) (nI f0_n) (nI f0_factorCount) (nI f0_invariantCount) a1f (zq_ar a2) (zq_ar a3) (zq_ar a4) (zq_ar a5) (zq_ar a6) (zq_ar a7) n (nI x2) (nI x3) := by
  intro n
  induction n with
  | zero =>
    intro x2 x3 h
    exact absurd h Bool.false_ne_true
  | succ n ih =>
    intro x2 x3 h
    rw [eq_numberOf_5] at h
    refine zf_if (zc_lt (Eq.refl (nI x3)) (show (0 : Int32) = nI 0 from rfl)) h (fun h => ?_) (fun h => ?_)
    · exact hK _ _ (Eq.refl (nI x2)) h
    · refine zf_in (zt_add (zt_mul (show (10 : Int32) = nI 10 from rfl) (Eq.refl (nI x1))) (Eq.refl (nI x3))) (by decide) h (fun h => ?_)
      refine zf_nm (zt_add (zt_mul (show (5 : Int32) = nI 5 from rfl) (Eq.refl (nI x2))) (zt_rd (zt_cl (zt_add (zt_mul (show (10 : Int32) = nI 10 from rfl) (Eq.refl (nI x1))) (Eq.refl (nI x3)))))) h (fun x2_3 h => ?_)
      refine zf_nm (zt_add (Eq.refl (nI x3)) (show (-1 : Int32) = nI 4294967295 from rfl)) h (fun x3_4 h => ?_)
      exact ih x2_3 x3_4 h
noncomputable def ev_numberOf (K : Nat → Bool) (f0_n f0_factorCount f0_invariantCount a1 a2 a3 a4 a5 a6 a7 p0 : Nat) : Bool := ev_numberOf_5 K p0 f0_n f0_factorCount f0_invariantCount a1 a2 a3 a4 a5 a6 a7 40 0 9
theorem sm_numberOf {r : Nat} (hr : r < 4) {post : Int32 → Prop} {K : Nat → Bool} {f0_n f0_factorCount f0_invariantCount a1 a2 a3 a4 a5 a6 a7 p0 : Nat} {a1f : Nat → Int32} {v_p0 : Int32} (a1h : zq_AE r a1f a1) (e_p0 : v_p0 = nI p0) (h : ev_numberOf K f0_n f0_factorCount f0_invariantCount a1 a2 a3 a4 a5 a6 a7 p0 = true) (hK : zq_HV K post) : wpX_numberOf post ((nI f0_n), (nI f0_factorCount), (nI f0_invariantCount), a1f, (zq_ar a2), (zq_ar a3), (zq_ar a4), (zq_ar a5), (zq_ar a6), (zq_ar a7)) v_p0 := by
  subst e_p0
  unfold ev_numberOf at h
  unfold wpX_numberOf
  dsimp only
  refine ⟨40, ?_⟩
  exact sm_numberOf_5 hr  hK p0 f0_n f0_factorCount f0_invariantCount a1 a2 a3 a4 a5 a6 a7 a1f a1h 40 0 9 h
noncomputable def ev_addCoefficient (K : zq_K) (f0_n f0_factorCount f0_invariantCount a1 a2 a3 a4 a5 a6 a7 p0 p1 p2 : Nat) : Bool := zq_if (Nat.ble (Nat.succ (zq_add (zq_mul 10 p0) p1)) 130) (zq_fo (zq_add (zq_rd a2 (zq_cl (zq_add (zq_mul 10 p0) p1))) p2) (fun x4_2 => zq_if (Nat.ble (Nat.succ (zq_add (zq_mul 10 p0) p1)) 130) (zq_up a2 (zq_cl (zq_add (zq_mul 10 p0) p1)) (zq_b (zq_rem x4_2 5)) (fun a2_5 => K f0_n f0_factorCount f0_invariantCount a1 a2_5 a3 a4 a5 a6 a7)) false)) false
theorem sm_addCoefficient {r : Nat} (hr : r < 4) {post : St2 → Prop} {K : zq_K} {f0_n f0_factorCount f0_invariantCount a1 a2 a3 a4 a5 a6 a7 p0 p1 p2 : Nat} {a1f : Nat → Int32} {v_p0 v_p1 v_p2 : Int32} (a1h : zq_AE r a1f a1) (e_p0 : v_p0 = nI p0) (e_p1 : v_p1 = nI p1) (e_p2 : v_p2 = nI p2) (h : ev_addCoefficient K f0_n f0_factorCount f0_invariantCount a1 a2 a3 a4 a5 a6 a7 p0 p1 p2 = true) (hK : zq_H r K post) : wpX_addCoefficient post ((nI f0_n), (nI f0_factorCount), (nI f0_invariantCount), a1f, (zq_ar a2), (zq_ar a3), (zq_ar a4), (zq_ar a5), (zq_ar a6), (zq_ar a7)) v_p0 v_p1 v_p2 := by
  subst e_p0 e_p1 e_p2
  unfold ev_addCoefficient at h
  unfold wpX_addCoefficient
  dsimp only
  refine zf_in (zt_add (zt_mul (show (10 : Int32) = nI 10 from rfl) (Eq.refl (nI p0))) (Eq.refl (nI p1))) (by decide) h (fun h => ?_)
  refine zf_nm (zt_add (zt_rd (zt_cl (zt_add (zt_mul (show (10 : Int32) = nI 10 from rfl) (Eq.refl (nI p0))) (Eq.refl (nI p1))))) (Eq.refl (nI p2))) h (fun x4_2 h => ?_)
  refine zf_5 ?_
  refine zf_in (zt_add (zt_mul (show (10 : Int32) = nI 10 from rfl) (Eq.refl (nI p0))) (Eq.refl (nI p1))) (by decide) h (fun h => ?_)
  refine zf_up (zt_cl (zt_add (zt_mul (show (10 : Int32) = nI 10 from rfl) (Eq.refl (nI p0))) (Eq.refl (nI p1)))) (zt_b (zt_rem (Eq.refl (nI x4_2)) (show (5 : Int32) = nI 5 from rfl))) h (fun a2_5 h => ?_)
  exact hK _ _ _ _ _ _ _ _ _ _ _ a1h h
noncomputable def ev_addMultiple_3 (K : zq_K) (x1 x2 x3 : Nat) (n : Nat) : Nat → Nat → Nat → Nat → Nat → Nat → Nat → Nat → Nat → Nat → Nat → Bool := @Nat.rec (fun _ => Nat → Nat → Nat → Nat → Nat → Nat → Nat → Nat → Nat → Nat → Nat → Bool) (fun _ _ _ _ _ _ _ _ _ _ _ => false) (fun _ ih => fun x4 f0_n f0_factorCount f0_invariantCount a1 a2 a3 a4 a5 a6 a7 => zq_if (zq_le 10 x4) (K f0_n f0_factorCount f0_invariantCount a1 a2 a3 a4 a5 a6 a7) (zq_if (Nat.ble (Nat.succ (zq_add (zq_mul 10 x2) x4)) 130) (zq_fo (zq_mul x3 (zq_rd a2 (zq_cl (zq_add (zq_mul 10 x2) x4)))) (fun q0 => ev_addCoefficient (fun f0_n_4 f0_factorCount_5 f0_invariantCount_6 am281_9 am282_12 am283_15 am284_18 am285_21 am286_24 am287_27 => zq_fo (zq_add x4 1) (fun x4_28 => ih x4_28 f0_n_4 f0_factorCount_5 f0_invariantCount_6 am281_9 am282_12 am283_15 am284_18 am285_21 am286_24 am287_27)) f0_n f0_factorCount f0_invariantCount a1 a2 a3 a4 a5 a6 a7 x1 x4 q0)) false)) n
theorem eq_addMultiple_3 (K : zq_K) (n x1 x2 x3 x4 f0_n f0_factorCount f0_invariantCount a1 a2 a3 a4 a5 a6 a7 : Nat) : ev_addMultiple_3 K x1 x2 x3 (n + 1) x4 f0_n f0_factorCount f0_invariantCount a1 a2 a3 a4 a5 a6 a7 = (zq_if (zq_le 10 x4) (K f0_n f0_factorCount f0_invariantCount a1 a2 a3 a4 a5 a6 a7) (zq_if (Nat.ble (Nat.succ (zq_add (zq_mul 10 x2) x4)) 130) (zq_fo (zq_mul x3 (zq_rd a2 (zq_cl (zq_add (zq_mul 10 x2) x4)))) (fun q0 => ev_addCoefficient (fun f0_n_4 f0_factorCount_5 f0_invariantCount_6 am281_9 am282_12 am283_15 am284_18 am285_21 am286_24 am287_27 => zq_fo (zq_add x4 1) (fun x4_28 => (ev_addMultiple_3 K x1 x2 x3 n) x4_28 f0_n_4 f0_factorCount_5 f0_invariantCount_6 am281_9 am282_12 am283_15 am284_18 am285_21 am286_24 am287_27)) f0_n f0_factorCount f0_invariantCount a1 a2 a3 a4 a5 a6 a7 x1 x4 q0)) false)) := rfl
theorem sm_addMultiple_3 {r : Nat} (hr : r < 4) {post : St2 → Prop} {K : zq_K} (hK : zq_H r K post) (x1 x2 x3 : Nat) : ∀ (n x4 f0_n f0_factorCount f0_invariantCount a1 a2 a3 a4 a5 a6 a7 : Nat) (a1f : Nat → Int32), zq_AE r a1f a1 → ev_addMultiple_3 K x1 x2 x3 n x4 f0_n f0_factorCount f0_invariantCount a1 a2 a3 a4 a5 a6 a7 = true → wX_addMultiple_3 post (nI x1) (nI x2) (nI x3) n (nI x4) (nI f0_n) (nI f0_factorCount) (nI f0_invariantCount) a1f (zq_ar a2) (zq_ar a3) (zq_ar a4) (zq_ar a5) (zq_ar a6) (zq_ar a7) := by
  intro n
  induction n with
  | zero =>
    intro x4 f0_n f0_factorCount f0_invariantCount a1 a2 a3 a4 a5 a6 a7 a1f a1h h
    exact absurd h Bool.false_ne_true
  | succ n ih =>
    intro x4 f0_n f0_factorCount f0_invariantCount a1 a2 a3 a4 a5 a6 a7 a1f a1h h
    rw [eq_addMultiple_3] at h
    refine zf_if (zc_le (show (10 : Int32) = nI 10 from rfl) (Eq.refl (nI x4))) h (fun h => ?_) (fun h => ?_)
    · exact hK _ _ _ _ _ _ _ _ _ _ _ a1h h
    · refine zf_in (zt_add (zt_mul (show (10 : Int32) = nI 10 from rfl) (Eq.refl (nI x2))) (Eq.refl (nI x4))) (by decide) h (fun h => ?_)
      have h := zq_fo_t h
      refine sm_addCoefficient hr a1h (Eq.refl (nI x1)) (Eq.refl (nI x4)) (zt_mul (Eq.refl (nI x3)) (zt_rd (zt_cl (zt_add (zt_mul (show (10 : Int32) = nI 10 from rfl) (Eq.refl (nI x2))) (Eq.refl (nI x4)))))) h (fun f0_n_4 f0_factorCount_5 f0_invariantCount_6 am281_9 am282_12 am283_15 am284_18 am285_21 am286_24 am287_27 am281_9f am281_9h h => ?_)
      refine zf_nm (zt_add (Eq.refl (nI x4)) (show (1 : Int32) = nI 1 from rfl)) h (fun x4_28 h => ?_)
      exact ih x4_28 f0_n_4 f0_factorCount_5 f0_invariantCount_6 am281_9 am282_12 am283_15 am284_18 am285_21 am286_24 am287_27 am281_9f am281_9h h
noncomputable def ev_addMultiple (K : zq_K) (f0_n f0_factorCount f0_invariantCount a1 a2 a3 a4 a5 a6 a7 p0 p1 p2 : Nat) : Bool := ev_addMultiple_3 K p0 p1 p2 40 0 f0_n f0_factorCount f0_invariantCount a1 a2 a3 a4 a5 a6 a7
theorem sm_addMultiple {r : Nat} (hr : r < 4) {post : St2 → Prop} {K : zq_K} {f0_n f0_factorCount f0_invariantCount a1 a2 a3 a4 a5 a6 a7 p0 p1 p2 : Nat} {a1f : Nat → Int32} {v_p0 v_p1 v_p2 : Int32} (a1h : zq_AE r a1f a1) (e_p0 : v_p0 = nI p0) (e_p1 : v_p1 = nI p1) (e_p2 : v_p2 = nI p2) (h : ev_addMultiple K f0_n f0_factorCount f0_invariantCount a1 a2 a3 a4 a5 a6 a7 p0 p1 p2 = true) (hK : zq_H r K post) : wpX_addMultiple post ((nI f0_n), (nI f0_factorCount), (nI f0_invariantCount), a1f, (zq_ar a2), (zq_ar a3), (zq_ar a4), (zq_ar a5), (zq_ar a6), (zq_ar a7)) v_p0 v_p1 v_p2 := by
  subst e_p0 e_p1 e_p2
  unfold ev_addMultiple at h
  unfold wpX_addMultiple
  dsimp only
  refine ⟨40, ?_⟩
  exact sm_addMultiple_3 hr  hK p0 p1 p2 40 0 f0_n f0_factorCount f0_invariantCount a1 a2 a3 a4 a5 a6 a7 a1f a1h h
noncomputable def ev_characteristicOf_128 (K : Nat → zq_K) (B_J27 : Nat → Nat → Nat → Nat → Nat → Nat → Nat → Nat → Nat → Nat → Nat → Bool) (x2 x3 : Nat) (n : Nat) : Nat → Nat → Nat → Nat → Nat → Nat → Nat → Nat → Nat → Nat → Nat → Nat → Bool := @Nat.rec (fun _ => Nat → Nat → Nat → Nat → Nat → Nat → Nat → Nat → Nat → Nat → Nat → Nat → Bool) (fun _ _ _ _ _ _ _ _ _ _ _ _ => false) (fun _ ih => fun x5 x6 f0_n f0_factorCount f0_invariantCount am441 am442 am443 am444 am445 am446 am447 => zq_if (zq_lt x6 0) (zq_fo (zq_add x2 1) (fun x2_110 => B_J27 x2_110 f0_n f0_factorCount f0_invariantCount am441 am442 am443 am444 am445 am446 am447)) (zq_fo (zq_add x6 1) (fun q0 => ev_entry (fun r_111 => zq_fo (zq_rem (zq_mul x5 r_111) 5) (fun x5_113 => ev_entry (fun r_114 => zq_fo (zq_rem (zq_mul x5_113 r_114) 5) (fun x7_116 => zq_fo (zq_add 8 x6) (fun q0 => zq_fo (zq_sub 5 x7_116) (fun q1 => ev_addMultiple (fun f0_n_118 f0_factorCount_119 f0_invariantCount_120 am1771_123 am1772_126 am1773_129 am1774_132 am1775_135 am1776_138 am1777_141 => zq_fo (zq_add x6 4294967295) (fun x6_142 => ih x5_113 x6_142 f0_n_118 f0_factorCount_119 f0_invariantCount_120 am1771_123 am1772_126 am1773_129 am1774_132 am1775_135 am1776_138 am1777_141)) f0_n f0_factorCount f0_invariantCount am441 am442 am443 am444 am445 am446 am447 x3 q0 q1)))) am441 2 x6 x2)) am441 2 q0 x6))) n
theorem eq_characteristicOf_128 (K : Nat → zq_K) (B_J27 : Nat → Nat → Nat → Nat → Nat → Nat → Nat → Nat → Nat → Nat → Nat → Bool) (n x2 x3 x5 x6 f0_n f0_factorCount f0_invariantCount am441 am442 am443 am444 am445 am446 am447 : Nat) : ev_characteristicOf_128 K B_J27 x2 x3 (n + 1) x5 x6 f0_n f0_factorCount f0_invariantCount am441 am442 am443 am444 am445 am446 am447 = (zq_if (zq_lt x6 0) (zq_fo (zq_add x2 1) (fun x2_110 => B_J27 x2_110 f0_n f0_factorCount f0_invariantCount am441 am442 am443 am444 am445 am446 am447)) (zq_fo (zq_add x6 1) (fun q0 => ev_entry (fun r_111 => zq_fo (zq_rem (zq_mul x5 r_111) 5) (fun x5_113 => ev_entry (fun r_114 => zq_fo (zq_rem (zq_mul x5_113 r_114) 5) (fun x7_116 => zq_fo (zq_add 8 x6) (fun q0 => zq_fo (zq_sub 5 x7_116) (fun q1 => ev_addMultiple (fun f0_n_118 f0_factorCount_119 f0_invariantCount_120 am1771_123 am1772_126 am1773_129 am1774_132 am1775_135 am1776_138 am1777_141 => zq_fo (zq_add x6 4294967295) (fun x6_142 => (ev_characteristicOf_128 K B_J27 x2 x3 n) x5_113 x6_142 f0_n_118 f0_factorCount_119 f0_invariantCount_120 am1771_123 am1772_126 am1773_129 am1774_132 am1775_135 am1776_138 am1777_141)) f0_n f0_factorCount f0_invariantCount am441 am442 am443 am444 am445 am446 am447 x3 q0 q1)))) am441 2 x6 x2)) am441 2 q0 x6))) := rfl
theorem sm_characteristicOf_128 {r : Nat} (hr : r < 4) {post : Int32 → St2 → Prop} {K : Nat → zq_K} {J27 : Int32 → Int32 → Int32 → Int32 → (Nat → Int32) → (Nat → Int32) → (Nat → Int32) → (Nat → Int32) → (Nat → Int32) → (Nat → Int32) → (Nat → Int32) → Prop} {B_J27 : Nat → Nat → Nat → Nat → Nat → Nat → Nat → Nat → Nat → Nat → Nat → Bool} (hK : zq_HW r K post) (hJ27 : ∀ (y0 y1 y2 y3 y4 y5 y6 y7 y8 y9 y10 : Nat) (yf : Nat → Int32), zq_AE r yf y4 → B_J27 y0 y1 y2 y3 y4 y5 y6 y7 y8 y9 y10 = true → J27 (nI y0) (nI y1) (nI y2) (nI y3) yf (zq_ar y5) (zq_ar y6) (zq_ar y7) (zq_ar y8) (zq_ar y9) (zq_ar y10)) (x2 x3 : Nat) : ∀ (n x5 x6 f0_n f0_factorCount f0_invariantCount am441 am442 am443 am444 am445 am446 am447 : Nat) (am441f : Nat → Int32), zq_AE r am441f am441 → ev_characteristicOf_128 K B_J27 x2 x3 n x5 x6 f0_n f0_factorCount f0_invariantCount am441 am442 am443 am444 am445 am446 am447 = true → wX_characteristicOf_128 post J27 (nI x2) (nI x3) n (nI x5) (nI x6) (nI f0_n) (nI f0_factorCount) (nI f0_invariantCount) am441f (zq_ar am442) (zq_ar am443) (zq_ar am444) (zq_ar am445) (zq_ar am446) (zq_ar am447) := by
  intro n
  induction n with
  | zero =>
    intro x5 x6 f0_n f0_factorCount f0_invariantCount am441 am442 am443 am444 am445 am446 am447 am441f am441h h
    exact absurd h Bool.false_ne_true
  | succ n ih =>
    intro x5 x6 f0_n f0_factorCount f0_invariantCount am441 am442 am443 am444 am445 am446 am447 am441f am441h h
    rw [eq_characteristicOf_128] at h
    refine zf_if (zc_lt (Eq.refl (nI x6)) (show (0 : Int32) = nI 0 from rfl)) h (fun h => ?_) (fun h => ?_)
    · refine zf_nm (zt_add (Eq.refl (nI x2)) (show (1 : Int32) = nI 1 from rfl)) h (fun x2_110 h => ?_)
      exact hJ27 x2_110 f0_n f0_factorCount f0_invariantCount am441 am442 am443 am444 am445 am446 am447 am441f am441h h
    · have h := zq_fo_t h
      refine sm_entry hr am441h (show (5 : Int32) = nI (zq_pl r 2) from rfl) (zt_add (Eq.refl (nI x6)) (show (1 : Int32) = nI 1 from rfl)) (Eq.refl (nI x6)) h (fun q_v r_111 q_e h => ?_)
      subst q_e
      refine zf_5 ?_
      refine zf_nm (zt_rem (zt_mul (Eq.refl (nI x5)) (Eq.refl (nI r_111))) (show (5 : Int32) = nI 5 from rfl)) h (fun x5_113 h => ?_)
      refine sm_entry hr am441h (show (5 : Int32) = nI (zq_pl r 2) from rfl) (Eq.refl (nI x6)) (Eq.refl (nI x2)) h (fun q_v r_114 q_e h => ?_)
      subst q_e
      refine zf_5 ?_
      refine zf_nm (zt_rem (zt_mul (Eq.refl (nI x5_113)) (Eq.refl (nI r_114))) (show (5 : Int32) = nI 5 from rfl)) h (fun x7_116 h => ?_)
      have h := zq_fo_t h
      have h := zq_fo_t h
      refine sm_addMultiple hr am441h (Eq.refl (nI x3)) (zt_add (show (8 : Int32) = nI 8 from rfl) (Eq.refl (nI x6))) (zt_sub (show (5 : Int32) = nI 5 from rfl) (Eq.refl (nI x7_116))) h (fun f0_n_118 f0_factorCount_119 f0_invariantCount_120 am1771_123 am1772_126 am1773_129 am1774_132 am1775_135 am1776_138 am1777_141 am1771_123f am1771_123h h => ?_)
      refine zf_nm (zt_add (Eq.refl (nI x6)) (show (-1 : Int32) = nI 4294967295 from rfl)) h (fun x6_142 h => ?_)
      exact ih x5_113 x6_142 f0_n_118 f0_factorCount_119 f0_invariantCount_120 am1771_123 am1772_126 am1773_129 am1774_132 am1775_135 am1776_138 am1777_141 am1771_123f am1771_123h h
noncomputable def ev_characteristicOf_59 (K : Nat → zq_K) (B_J27 : Nat → Nat → Nat → Nat → Nat → Nat → Nat → Nat → Nat → Nat → Nat → Bool) (x2 x3 x4 : Nat) (n : Nat) : Nat → Nat → Nat → Nat → Nat → Nat → Nat → Nat → Nat → Nat → Nat → Bool := @Nat.rec (fun _ => Nat → Nat → Nat → Nat → Nat → Nat → Nat → Nat → Nat → Nat → Nat → Bool) (fun _ _ _ _ _ _ _ _ _ _ _ => false) (fun _ ih => fun x5 f0_n f0_factorCount f0_invariantCount am441 am442 am443 am444 am445 am446 am447 => zq_if (zq_lt x2 x5) (zq_fo (zq_sub x2 1) (fun x6_108 => ev_characteristicOf_128 K B_J27 x2 x3 40 1 x6_108 f0_n f0_factorCount f0_invariantCount am441 am442 am443 am444 am445 am446 am447)) (zq_if (Nat.ble (Nat.succ (zq_add (zq_mul 10 (zq_sub x3 1)) x5)) 130) (zq_fo (zq_add x5 1) (fun q0 => zq_fo (zq_rd am442 (zq_cl (zq_add (zq_mul 10 (zq_sub x3 1)) x5))) (fun q1 => ev_addCoefficient (fun f0_n_145 f0_factorCount_146 f0_invariantCount_147 am851_150 am852_153 am853_156 am854_159 am855_162 am856_165 am857_168 => zq_if (Nat.ble (Nat.succ (zq_add (zq_mul 10 (zq_sub x3 1)) x5)) 130) (zq_fo (zq_mul (zq_sub 5 x4) (zq_rd am852_153 (zq_cl (zq_add (zq_mul 10 (zq_sub x3 1)) x5)))) (fun q0 => ev_addCoefficient (fun f0_n_171 f0_factorCount_172 f0_invariantCount_173 am1111_176 am1112_179 am1113_182 am1114_185 am1115_188 am1116_191 am1117_194 => zq_fo (zq_add x5 1) (fun x5_195 => ih x5_195 f0_n_171 f0_factorCount_172 f0_invariantCount_173 am1111_176 am1112_179 am1113_182 am1114_185 am1115_188 am1116_191 am1117_194)) f0_n_145 f0_factorCount_146 f0_invariantCount_147 am851_150 am852_153 am853_156 am854_159 am855_162 am856_165 am857_168 x3 x5 q0)) false) f0_n f0_factorCount f0_invariantCount am441 am442 am443 am444 am445 am446 am447 x3 q0 q1))) false)) n
theorem eq_characteristicOf_59 (K : Nat → zq_K) (B_J27 : Nat → Nat → Nat → Nat → Nat → Nat → Nat → Nat → Nat → Nat → Nat → Bool) (n x2 x3 x4 x5 f0_n f0_factorCount f0_invariantCount am441 am442 am443 am444 am445 am446 am447 : Nat) : ev_characteristicOf_59 K B_J27 x2 x3 x4 (n + 1) x5 f0_n f0_factorCount f0_invariantCount am441 am442 am443 am444 am445 am446 am447 = (zq_if (zq_lt x2 x5) (zq_fo (zq_sub x2 1) (fun x6_108 => ev_characteristicOf_128 K B_J27 x2 x3 40 1 x6_108 f0_n f0_factorCount f0_invariantCount am441 am442 am443 am444 am445 am446 am447)) (zq_if (Nat.ble (Nat.succ (zq_add (zq_mul 10 (zq_sub x3 1)) x5)) 130) (zq_fo (zq_add x5 1) (fun q0 => zq_fo (zq_rd am442 (zq_cl (zq_add (zq_mul 10 (zq_sub x3 1)) x5))) (fun q1 => ev_addCoefficient (fun f0_n_145 f0_factorCount_146 f0_invariantCount_147 am851_150 am852_153 am853_156 am854_159 am855_162 am856_165 am857_168 => zq_if (Nat.ble (Nat.succ (zq_add (zq_mul 10 (zq_sub x3 1)) x5)) 130) (zq_fo (zq_mul (zq_sub 5 x4) (zq_rd am852_153 (zq_cl (zq_add (zq_mul 10 (zq_sub x3 1)) x5)))) (fun q0 => ev_addCoefficient (fun f0_n_171 f0_factorCount_172 f0_invariantCount_173 am1111_176 am1112_179 am1113_182 am1114_185 am1115_188 am1116_191 am1117_194 => zq_fo (zq_add x5 1) (fun x5_195 => (ev_characteristicOf_59 K B_J27 x2 x3 x4 n) x5_195 f0_n_171 f0_factorCount_172 f0_invariantCount_173 am1111_176 am1112_179 am1113_182 am1114_185 am1115_188 am1116_191 am1117_194)) f0_n_145 f0_factorCount_146 f0_invariantCount_147 am851_150 am852_153 am853_156 am854_159 am855_162 am856_165 am857_168 x3 x5 q0)) false) f0_n f0_factorCount f0_invariantCount am441 am442 am443 am444 am445 am446 am447 x3 q0 q1))) false)) := rfl
theorem sm_characteristicOf_59 {r : Nat} (hr : r < 4) {post : Int32 → St2 → Prop} {K : Nat → zq_K} {J27 : Int32 → Int32 → Int32 → Int32 → (Nat → Int32) → (Nat → Int32) → (Nat → Int32) → (Nat → Int32) → (Nat → Int32) → (Nat → Int32) → (Nat → Int32) → Prop} {B_J27 : Nat → Nat → Nat → Nat → Nat → Nat → Nat → Nat → Nat → Nat → Nat → Bool} (hK : zq_HW r K post) (hJ27 : ∀ (y0 y1 y2 y3 y4 y5 y6 y7 y8 y9 y10 : Nat) (yf : Nat → Int32), zq_AE r yf y4 → B_J27 y0 y1 y2 y3 y4 y5 y6 y7 y8 y9 y10 = true → J27 (nI y0) (nI y1) (nI y2) (nI y3) yf (zq_ar y5) (zq_ar y6) (zq_ar y7) (zq_ar y8) (zq_ar y9) (zq_ar y10)) (x2 x3 x4 : Nat) : ∀ (n x5 f0_n f0_factorCount f0_invariantCount am441 am442 am443 am444 am445 am446 am447 : Nat) (am441f : Nat → Int32), zq_AE r am441f am441 → ev_characteristicOf_59 K B_J27 x2 x3 x4 n x5 f0_n f0_factorCount f0_invariantCount am441 am442 am443 am444 am445 am446 am447 = true → wX_characteristicOf_59 post J27 (nI x2) (nI x3) (nI x4) n (nI x5) (nI f0_n) (nI f0_factorCount) (nI f0_invariantCount) am441f (zq_ar am442) (zq_ar am443) (zq_ar am444) (zq_ar am445) (zq_ar am446) (zq_ar am447) := by
  intro n
  induction n with
  | zero =>
    intro x5 f0_n f0_factorCount f0_invariantCount am441 am442 am443 am444 am445 am446 am447 am441f am441h h
    exact absurd h Bool.false_ne_true
  | succ n ih =>
    intro x5 f0_n f0_factorCount f0_invariantCount am441 am442 am443 am444 am445 am446 am447 am441f am441h h
    rw [eq_characteristicOf_59] at h
    refine zf_if (zc_lt (Eq.refl (nI x2)) (Eq.refl (nI x5))) h (fun h => ?_) (fun h => ?_)
    · refine zf_nm (zt_sub (Eq.refl (nI x2)) (show (1 : Int32) = nI 1 from rfl)) h (fun x6_108 h => ?_)
      refine ⟨40, ?_⟩
      exact sm_characteristicOf_128 hr  hK hJ27 x2 x3 40 1 x6_108 f0_n f0_factorCount f0_invariantCount am441 am442 am443 am444 am445 am446 am447 am441f am441h h
    · refine zf_in (zt_add (zt_mul (show (10 : Int32) = nI 10 from rfl) (zt_sub (Eq.refl (nI x3)) (show (1 : Int32) = nI 1 from rfl))) (Eq.refl (nI x5))) (by decide) h (fun h => ?_)
      have h := zq_fo_t h
      have h := zq_fo_t h
      refine sm_addCoefficient hr am441h (Eq.refl (nI x3)) (zt_add (Eq.refl (nI x5)) (show (1 : Int32) = nI 1 from rfl)) (zt_rd (zt_cl (zt_add (zt_mul (show (10 : Int32) = nI 10 from rfl) (zt_sub (Eq.refl (nI x3)) (show (1 : Int32) = nI 1 from rfl))) (Eq.refl (nI x5))))) h (fun f0_n_145 f0_factorCount_146 f0_invariantCount_147 am851_150 am852_153 am853_156 am854_159 am855_162 am856_165 am857_168 am851_150f am851_150h h => ?_)
      refine zf_in (zt_add (zt_mul (show (10 : Int32) = nI 10 from rfl) (zt_sub (Eq.refl (nI x3)) (show (1 : Int32) = nI 1 from rfl))) (Eq.refl (nI x5))) (by decide) h (fun h => ?_)
      have h := zq_fo_t h
      refine sm_addCoefficient hr am851_150h (Eq.refl (nI x3)) (Eq.refl (nI x5)) (zt_mul (zt_sub (show (5 : Int32) = nI 5 from rfl) (Eq.refl (nI x4))) (zt_rd (zt_cl (zt_add (zt_mul (show (10 : Int32) = nI 10 from rfl) (zt_sub (Eq.refl (nI x3)) (show (1 : Int32) = nI 1 from rfl))) (Eq.refl (nI x5)))))) h (fun f0_n_171 f0_factorCount_172 f0_invariantCount_173 am1111_176 am1112_179 am1113_182 am1114_185 am1115_188 am1116_191 am1117_194 am1111_176f am1111_176h h => ?_)
      refine zf_nm (zt_add (Eq.refl (nI x5)) (show (1 : Int32) = nI 1 from rfl)) h (fun x5_195 h => ?_)
      exact ih x5_195 f0_n_171 f0_factorCount_172 f0_invariantCount_173 am1111_176 am1112_179 am1113_182 am1114_185 am1115_188 am1116_191 am1117_194 am1111_176f am1111_176h h
noncomputable def ev_characteristicOf_27 (K : Nat → zq_K) (n : Nat) : Nat → Nat → Nat → Nat → Nat → Nat → Nat → Nat → Nat → Nat → Nat → Bool := @Nat.rec (fun _ => Nat → Nat → Nat → Nat → Nat → Nat → Nat → Nat → Nat → Nat → Nat → Bool) (fun _ _ _ _ _ _ _ _ _ _ _ => false) (fun _ ih => fun x2 f0_n f0_factorCount f0_invariantCount am141 am142 am143 am144 am145 am146 am147 => zq_if (zq_le f0_n x2) (zq_fo (zq_add 8 f0_n) (fun q0 => ev_numberOf (fun r_79 => K r_79 f0_n f0_factorCount f0_invariantCount am141 am142 am143 am144 am145 am146 am147) f0_n f0_factorCount f0_invariantCount am141 am142 am143 am144 am145 am146 am147 q0)) (zq_fo (zq_add (zq_add 8 x2) 1) (fun x3_80 => ev_clearPoly (fun f0_n_82 f0_factorCount_83 f0_invariantCount_84 am441_87 am442_90 am443_93 am444_96 am445_99 am446_102 am447_105 => ev_entry (fun r_106 => ev_characteristicOf_59 K ih x2 x3_80 r_106 40 0 f0_n_82 f0_factorCount_83 f0_invariantCount_84 am441_87 am442_90 am443_93 am444_96 am445_99 am446_102 am447_105) am441_87 2 x2 x2) f0_n f0_factorCount f0_invariantCount am141 am142 am143 am144 am145 am146 am147 x3_80))) n
theorem eq_characteristicOf_27 (K : Nat → zq_K) (n x2 f0_n f0_factorCount f0_invariantCount am141 am142 am143 am144 am145 am146 am147 : Nat) : ev_characteristicOf_27 K (n + 1) x2 f0_n f0_factorCount f0_invariantCount am141 am142 am143 am144 am145 am146 am147 = (zq_if (zq_le f0_n x2) (zq_fo (zq_add 8 f0_n) (fun q0 => ev_numberOf (fun r_79 => K r_79 f0_n f0_factorCount f0_invariantCount am141 am142 am143 am144 am145 am146 am147) f0_n f0_factorCount f0_invariantCount am141 am142 am143 am144 am145 am146 am147 q0)) (zq_fo (zq_add (zq_add 8 x2) 1) (fun x3_80 => ev_clearPoly (fun f0_n_82 f0_factorCount_83 f0_invariantCount_84 am441_87 am442_90 am443_93 am444_96 am445_99 am446_102 am447_105 => ev_entry (fun r_106 => ev_characteristicOf_59 K (ev_characteristicOf_27 K n) x2 x3_80 r_106 40 0 f0_n_82 f0_factorCount_83 f0_invariantCount_84 am441_87 am442_90 am443_93 am444_96 am445_99 am446_102 am447_105) am441_87 2 x2 x2) f0_n f0_factorCount f0_invariantCount am141 am142 am143 am144 am145 am146 am147 x3_80))) := rfl
theorem sm_characteristicOf_27 {r : Nat} (hr : r < 4) {post : Int32 → St2 → Prop} {K : Nat → zq_K} (hK : zq_HW r K post) : ∀ (n x2 f0_n f0_factorCount f0_invariantCount am141 am142 am143 am144 am145 am146 am147 : Nat) (am141f : Nat → Int32), zq_AE r am141f am141 → ev_characteristicOf_27 K n x2 f0_n f0_factorCount f0_invariantCount am141 am142 am143 am144 am145 am146 am147 = true → wX_characteristicOf_27 post n (nI x2) (nI f0_n) (nI f0_factorCount) (nI f0_invariantCount) am141f (zq_ar am142) (zq_ar am143) (zq_ar am144) (zq_ar am145) (zq_ar am146) (zq_ar am147) := by
  intro n
  induction n with
  | zero =>
    intro x2 f0_n f0_factorCount f0_invariantCount am141 am142 am143 am144 am145 am146 am147 am141f am141h h
    exact absurd h Bool.false_ne_true
  | succ n ih =>
    intro x2 f0_n f0_factorCount f0_invariantCount am141 am142 am143 am144 am145 am146 am147 am141f am141h h
    rw [eq_characteristicOf_27] at h
    refine zf_if (zc_le (Eq.refl (nI f0_n)) (Eq.refl (nI x2))) h (fun h => ?_) (fun h => ?_)
    · have h := zq_fo_t h
      refine sm_numberOf hr am141h (zt_add (show (8 : Int32) = nI 8 from rfl) (Eq.refl (nI f0_n))) h (fun q_v r_79 q_e h => ?_)
      subst q_e
      exact hK _ _ _ _ _ _ _ _ _ _ _ _ _ (Eq.refl (nI r_79)) am141h h
    · refine zf_nm (zt_add (zt_add (show (8 : Int32) = nI 8 from rfl) (Eq.refl (nI x2))) (show (1 : Int32) = nI 1 from rfl)) h (fun x3_80 h => ?_)
      refine sm_clearPoly hr am141h (Eq.refl (nI x3_80)) h (fun f0_n_82 f0_factorCount_83 f0_invariantCount_84 am441_87 am442_90 am443_93 am444_96 am445_99 am446_102 am447_105 am441_87f am441_87h h => ?_)
      refine sm_entry hr am441_87h (show (5 : Int32) = nI (zq_pl r 2) from rfl) (Eq.refl (nI x2)) (Eq.refl (nI x2)) h (fun q_v r_106 q_e h => ?_)
      subst q_e
      refine ⟨40, ?_⟩
      exact sm_characteristicOf_59 hr (J27 := wX_characteristicOf_27 post n) (B_J27 := ev_characteristicOf_27 K n) hK ih x2 x3_80 r_106 40 0 f0_n_82 f0_factorCount_83 f0_invariantCount_84 am441_87 am442_90 am443_93 am444_96 am445_99 am446_102 am447_105 am441_87f am441_87h h
noncomputable def ev_characteristicOf (K : Nat → zq_K) (f0_n f0_factorCount f0_invariantCount a1 a2 a3 a4 a5 a6 a7 p0 : Nat) : Bool := ev_copy (fun f0_n_2 f0_factorCount_3 f0_invariantCount_4 am31_7 am32_10 am33_13 am34_16 am35_19 am36_22 am37_25 => ev_makeNearlyTriangular (fun f0_n_27 f0_factorCount_28 f0_invariantCount_29 am81_32 am82_35 am83_38 am84_41 am85_44 am86_47 am87_50 => ev_clearPoly (fun f0_n_52 f0_factorCount_53 f0_invariantCount_54 am141_57 am142_60 am143_63 am144_66 am145_69 am146_72 am147_75 => zq_up am142_60 80 1 (fun am142_77 => ev_characteristicOf_27 K 40 0 f0_n_52 f0_factorCount_53 f0_invariantCount_54 am141_57 am142_77 am143_63 am144_66 am145_69 am146_72 am147_75)) f0_n_27 f0_factorCount_28 f0_invariantCount_29 am81_32 am82_35 am83_38 am84_41 am85_44 am86_47 am87_50 8) f0_n_2 f0_factorCount_3 f0_invariantCount_4 am31_7 am32_10 am33_13 am34_16 am35_19 am36_22 am37_25 2) f0_n f0_factorCount f0_invariantCount a1 a2 a3 a4 a5 a6 a7 2 p0
theorem sm_characteristicOf {r : Nat} (hr : r < 4) {post : Int32 → St2 → Prop} {K : Nat → zq_K} {f0_n f0_factorCount f0_invariantCount a1 a2 a3 a4 a5 a6 a7 p0 : Nat} {a1f : Nat → Int32} {v_p0 : Int32} (a1h : zq_AE r a1f a1) (e_p0 : v_p0 = nI (zq_pl r p0)) (h : ev_characteristicOf K f0_n f0_factorCount f0_invariantCount a1 a2 a3 a4 a5 a6 a7 p0 = true) (hK : zq_HW r K post) : wpX_characteristicOf post ((nI f0_n), (nI f0_factorCount), (nI f0_invariantCount), a1f, (zq_ar a2), (zq_ar a3), (zq_ar a4), (zq_ar a5), (zq_ar a6), (zq_ar a7)) v_p0 := by
  subst e_p0
  unfold ev_characteristicOf at h
  unfold wpX_characteristicOf
  dsimp only
  refine sm_copy hr a1h (show (5 : Int32) = nI (zq_pl r 2) from rfl) (Eq.refl (nI (zq_pl r p0))) h (fun f0_n_2 f0_factorCount_3 f0_invariantCount_4 am31_7 am32_10 am33_13 am34_16 am35_19 am36_22 am37_25 am31_7f am31_7h h => ?_)
  refine sm_makeNearlyTriangular hr am31_7h (show (5 : Int32) = nI (zq_pl r 2) from rfl) h (fun f0_n_27 f0_factorCount_28 f0_invariantCount_29 am81_32 am82_35 am83_38 am84_41 am85_44 am86_47 am87_50 am81_32f am81_32h h => ?_)
  refine sm_clearPoly hr am81_32h (show (8 : Int32) = nI 8 from rfl) h (fun f0_n_52 f0_factorCount_53 f0_invariantCount_54 am141_57 am142_60 am143_63 am144_66 am145_69 am146_72 am147_75 am141_57f am141_57h h => ?_)
  refine zf_up (Eq.refl 80) (show (1 : Int32) = nI 1 from rfl) h (fun am142_77 h => ?_)
  refine ⟨40, ?_⟩
  exact sm_characteristicOf_27 hr  hK 40 0 f0_n_52 f0_factorCount_53 f0_invariantCount_54 am141_57 am142_77 am143_63 am144_66 am145_69 am146_72 am147_75 am141_57f am141_57h h
end
section
noncomputable def ev_setIdentity_28 (K : zq_K) (B_J2 : Nat → Nat → Nat → Nat → Nat → Nat → Nat → Nat → Nat → Nat → Nat → Bool) (B_J9 : Nat → Nat → Nat → Nat → Nat → Nat → Nat → Nat → Nat → Nat → Nat → Bool) (x1 x2 x3 z0 z1 z2 z3 f0_n f0_factorCount f0_invariantCount a1 a2 a3 a4 a5 a6 a7 : Nat) : Bool := ev_setEntry (fun f0_n_6 f0_factorCount_7 f0_invariantCount_8 am281_11 am282_14 am283_17 am284_20 am285_23 am286_26 am287_29 => zq_fo (zq_add x3 1) (fun x3_30 => B_J9 x3_30 f0_n_6 f0_factorCount_7 f0_invariantCount_8 am281_11 am282_14 am283_17 am284_20 am285_23 am286_26 am287_29)) f0_n f0_factorCount f0_invariantCount a1 a2 a3 a4 a5 a6 a7 z3 z2 z1 z0
theorem sm_setIdentity_28 {r : Nat} (hr : r < 4) {post : St2 → Prop} {K : zq_K} {J2 : Int32 → Int32 → Int32 → Int32 → (Nat → Int32) → (Nat → Int32) → (Nat → Int32) → (Nat → Int32) → (Nat → Int32) → (Nat → Int32) → (Nat → Int32) → Prop} {B_J2 : Nat → Nat → Nat → Nat → Nat → Nat → Nat → Nat → Nat → Nat → Nat → Bool} {J9 : Int32 → Int32 → Int32 → Int32 → (Nat → Int32) → (Nat → Int32) → (Nat → Int32) → (Nat → Int32) → (Nat → Int32) → (Nat → Int32) → (Nat → Int32) → Prop} {B_J9 : Nat → Nat → Nat → Nat → Nat → Nat → Nat → Nat → Nat → Nat → Nat → Bool} (hK : zq_H r K post) (hJ2 : ∀ (y0 y1 y2 y3 y4 y5 y6 y7 y8 y9 y10 : Nat) (yf : Nat → Int32), zq_AE r yf y4 → B_J2 y0 y1 y2 y3 y4 y5 y6 y7 y8 y9 y10 = true → J2 (nI y0) (nI y1) (nI y2) (nI y3) yf (zq_ar y5) (zq_ar y6) (zq_ar y7) (zq_ar y8) (zq_ar y9) (zq_ar y10)) (hJ9 : ∀ (y0 y1 y2 y3 y4 y5 y6 y7 y8 y9 y10 : Nat) (yf : Nat → Int32), zq_AE r yf y4 → B_J9 y0 y1 y2 y3 y4 y5 y6 y7 y8 y9 y10 = true → J9 (nI y0) (nI y1) (nI y2) (nI y3) yf (zq_ar y5) (zq_ar y6) (zq_ar y7) (zq_ar y8) (zq_ar y9) (zq_ar y10)) (x1 x2 x3 z0 z1 z2 z3 f0_n f0_factorCount f0_invariantCount a1 a2 a3 a4 a5 a6 a7 : Nat) (a1f : Nat → Int32) (a1h : zq_AE r a1f a1) (h : ev_setIdentity_28 K B_J2 B_J9 x1 x2 x3 z0 z1 z2 z3 f0_n f0_factorCount f0_invariantCount a1 a2 a3 a4 a5 a6 a7 = true) : wX_setIdentity_28 post J2 J9 (nI (zq_pl r x1)) (nI x2) (nI x3) (nI z0) (nI z1) (nI z2) (nI (zq_pl r z3)) (nI f0_n) (nI f0_factorCount) (nI f0_invariantCount) a1f (zq_ar a2) (zq_ar a3) (zq_ar a4) (zq_ar a5) (zq_ar a6) (zq_ar a7) := by
  unfold ev_setIdentity_28 at h
  unfold wX_setIdentity_28
  refine sm_setEntry hr a1h (Eq.refl (nI (zq_pl r z3))) (Eq.refl (nI z2)) (Eq.refl (nI z1)) (Eq.refl (nI z0)) h (fun f0_n_6 f0_factorCount_7 f0_invariantCount_8 am281_11 am282_14 am283_17 am284_20 am285_23 am286_26 am287_29 am281_11f am281_11h h => ?_)
  refine zf_nm (zt_add (Eq.refl (nI x3)) (show (1 : Int32) = nI 1 from rfl)) h (fun x3_30 h => ?_)
  exact hJ9 x3_30 f0_n_6 f0_factorCount_7 f0_invariantCount_8 am281_11 am282_14 am283_17 am284_20 am285_23 am286_26 am287_29 am281_11f am281_11h h
noncomputable def ev_setIdentity_9 (K : zq_K) (B_J2 : Nat → Nat → Nat → Nat → Nat → Nat → Nat → Nat → Nat → Nat → Nat → Bool) (x1 x2 : Nat) (n : Nat) : Nat → Nat → Nat → Nat → Nat → Nat → Nat → Nat → Nat → Nat → Nat → Bool := @Nat.rec (fun _ => Nat → Nat → Nat → Nat → Nat → Nat → Nat → Nat → Nat → Nat → Nat → Bool) (fun _ _ _ _ _ _ _ _ _ _ _ => false) (fun _ ih => fun x3 f0_n f0_factorCount f0_invariantCount a1 a2 a3 a4 a5 a6 a7 => zq_if (zq_le 4 x3) (zq_fo (zq_add x2 1) (fun x2_3 => B_J2 x2_3 f0_n f0_factorCount f0_invariantCount a1 a2 a3 a4 a5 a6 a7)) (zq_if (zq_eq x2 x3) (ev_setIdentity_28 K B_J2 ih x1 x2 x3 1 x3 x2 x1 f0_n f0_factorCount f0_invariantCount a1 a2 a3 a4 a5 a6 a7) (ev_setIdentity_28 K B_J2 ih x1 x2 x3 0 x3 x2 x1 f0_n f0_factorCount f0_invariantCount a1 a2 a3 a4 a5 a6 a7))) n
theorem eq_setIdentity_9 (K : zq_K) (B_J2 : Nat → Nat → Nat → Nat → Nat → Nat → Nat → Nat → Nat → Nat → Nat → Bool) (n x1 x2 x3 f0_n f0_factorCount f0_invariantCount a1 a2 a3 a4 a5 a6 a7 : Nat) : ev_setIdentity_9 K B_J2 x1 x2 (n + 1) x3 f0_n f0_factorCount f0_invariantCount a1 a2 a3 a4 a5 a6 a7 = (zq_if (zq_le 4 x3) (zq_fo (zq_add x2 1) (fun x2_3 => B_J2 x2_3 f0_n f0_factorCount f0_invariantCount a1 a2 a3 a4 a5 a6 a7)) (zq_if (zq_eq x2 x3) (ev_setIdentity_28 K B_J2 (ev_setIdentity_9 K B_J2 x1 x2 n) x1 x2 x3 1 x3 x2 x1 f0_n f0_factorCount f0_invariantCount a1 a2 a3 a4 a5 a6 a7) (ev_setIdentity_28 K B_J2 (ev_setIdentity_9 K B_J2 x1 x2 n) x1 x2 x3 0 x3 x2 x1 f0_n f0_factorCount f0_invariantCount a1 a2 a3 a4 a5 a6 a7))) := rfl
theorem sm_setIdentity_9 {r : Nat} (hr : r < 4) {post : St2 → Prop} {K : zq_K} {J2 : Int32 → Int32 → Int32 → Int32 → (Nat → Int32) → (Nat → Int32) → (Nat → Int32) → (Nat → Int32) → (Nat → Int32) → (Nat → Int32) → (Nat → Int32) → Prop} {B_J2 : Nat → Nat → Nat → Nat → Nat → Nat → Nat → Nat → Nat → Nat → Nat → Bool} (hK : zq_H r K post) (hJ2 : ∀ (y0 y1 y2 y3 y4 y5 y6 y7 y8 y9 y10 : Nat) (yf : Nat → Int32), zq_AE r yf y4 → B_J2 y0 y1 y2 y3 y4 y5 y6 y7 y8 y9 y10 = true → J2 (nI y0) (nI y1) (nI y2) (nI y3) yf (zq_ar y5) (zq_ar y6) (zq_ar y7) (zq_ar y8) (zq_ar y9) (zq_ar y10)) (x1 x2 : Nat) : ∀ (n x3 f0_n f0_factorCount f0_invariantCount a1 a2 a3 a4 a5 a6 a7 : Nat) (a1f : Nat → Int32), zq_AE r a1f a1 → ev_setIdentity_9 K B_J2 x1 x2 n x3 f0_n f0_factorCount f0_invariantCount a1 a2 a3 a4 a5 a6 a7 = true → wX_setIdentity_9 post J2 (nI (zq_pl r x1)) (nI x2) n (nI x3) (nI f0_n) (nI f0_factorCount) (nI f0_invariantCount) a1f (zq_ar a2) (zq_ar a3) (zq_ar a4) (zq_ar a5) (zq_ar a6) (zq_ar a7) := by
  intro n
  induction n with
  | zero =>
    intro x3 f0_n f0_factorCount f0_invariantCount a1 a2 a3 a4 a5 a6 a7 a1f a1h h
    exact absurd h Bool.false_ne_true
  | succ n ih =>
    intro x3 f0_n f0_factorCount f0_invariantCount a1 a2 a3 a4 a5 a6 a7 a1f a1h h
    rw [eq_setIdentity_9] at h
    refine zf_if (zc_le (show (4 : Int32) = nI 4 from rfl) (Eq.refl (nI x3))) h (fun h => ?_) (fun h => ?_)
    · refine zf_nm (zt_add (Eq.refl (nI x2)) (show (1 : Int32) = nI 1 from rfl)) h (fun x2_3 h => ?_)
      exact hJ2 x2_3 f0_n f0_factorCount f0_invariantCount a1 a2 a3 a4 a5 a6 a7 a1f a1h h
    · refine zf_if (zc_eq (Eq.refl (nI x2)) (Eq.refl (nI x3))) h (fun h => ?_) (fun h => ?_)
      · exact sm_setIdentity_28 hr (J9 := wX_setIdentity_9 post J2 (nI (zq_pl r x1)) (nI x2) n) (B_J9 := ev_setIdentity_9 K B_J2 x1 x2 n) hK hJ2 ih x1 x2 x3 1 x3 x2 x1 f0_n f0_factorCount f0_invariantCount a1 a2 a3 a4 a5 a6 a7 a1f a1h h
      · exact sm_setIdentity_28 hr (J9 := wX_setIdentity_9 post J2 (nI (zq_pl r x1)) (nI x2) n) (B_J9 := ev_setIdentity_9 K B_J2 x1 x2 n) hK hJ2 ih x1 x2 x3 0 x3 x2 x1 f0_n f0_factorCount f0_invariantCount a1 a2 a3 a4 a5 a6 a7 a1f a1h h
noncomputable def ev_setIdentity_2 (K : zq_K) (x1 : Nat) (n : Nat) : Nat → Nat → Nat → Nat → Nat → Nat → Nat → Nat → Nat → Nat → Nat → Bool := @Nat.rec (fun _ => Nat → Nat → Nat → Nat → Nat → Nat → Nat → Nat → Nat → Nat → Nat → Bool) (fun _ _ _ _ _ _ _ _ _ _ _ => false) (fun _ ih => fun x2 f0_n f0_factorCount f0_invariantCount a1 a2 a3 a4 a5 a6 a7 => zq_if (zq_le 4 x2) (K f0_n f0_factorCount f0_invariantCount a1 a2 a3 a4 a5 a6 a7) (ev_setIdentity_9 K ih x1 x2 40 0 f0_n f0_factorCount f0_invariantCount a1 a2 a3 a4 a5 a6 a7)) n
theorem eq_setIdentity_2 (K : zq_K) (n x1 x2 f0_n f0_factorCount f0_invariantCount a1 a2 a3 a4 a5 a6 a7 : Nat) : ev_setIdentity_2 K x1 (n + 1) x2 f0_n f0_factorCount f0_invariantCount a1 a2 a3 a4 a5 a6 a7 = (zq_if (zq_le 4 x2) (K f0_n f0_factorCount f0_invariantCount a1 a2 a3 a4 a5 a6 a7) (ev_setIdentity_9 K (ev_setIdentity_2 K x1 n) x1 x2 40 0 f0_n f0_factorCount f0_invariantCount a1 a2 a3 a4 a5 a6 a7)) := rfl
theorem sm_setIdentity_2 {r : Nat} (hr : r < 4) {post : St2 → Prop} {K : zq_K} (hK : zq_H r K post) (x1 : Nat) : ∀ (n x2 f0_n f0_factorCount f0_invariantCount a1 a2 a3 a4 a5 a6 a7 : Nat) (a1f : Nat → Int32), zq_AE r a1f a1 → ev_setIdentity_2 K x1 n x2 f0_n f0_factorCount f0_invariantCount a1 a2 a3 a4 a5 a6 a7 = true → wX_setIdentity_2 post (nI (zq_pl r x1)) n (nI x2) (nI f0_n) (nI f0_factorCount) (nI f0_invariantCount) a1f (zq_ar a2) (zq_ar a3) (zq_ar a4) (zq_ar a5) (zq_ar a6) (zq_ar a7) := by
  intro n
  induction n with
  | zero =>
    intro x2 f0_n f0_factorCount f0_invariantCount a1 a2 a3 a4 a5 a6 a7 a1f a1h h
    exact absurd h Bool.false_ne_true
  | succ n ih =>
    intro x2 f0_n f0_factorCount f0_invariantCount a1 a2 a3 a4 a5 a6 a7 a1f a1h h
    rw [eq_setIdentity_2] at h
    refine zf_if (zc_le (show (4 : Int32) = nI 4 from rfl) (Eq.refl (nI x2))) h (fun h => ?_) (fun h => ?_)
    · exact hK _ _ _ _ _ _ _ _ _ _ _ a1h h
    · refine ⟨40, ?_⟩
      exact sm_setIdentity_9 hr (J2 := wX_setIdentity_2 post (nI (zq_pl r x1)) n) (B_J2 := ev_setIdentity_2 K x1 n) hK ih x1 x2 40 0 f0_n f0_factorCount f0_invariantCount a1 a2 a3 a4 a5 a6 a7 a1f a1h h
noncomputable def ev_setIdentity (K : zq_K) (f0_n f0_factorCount f0_invariantCount a1 a2 a3 a4 a5 a6 a7 p0 : Nat) : Bool := ev_setIdentity_2 K p0 40 0 f0_n f0_factorCount f0_invariantCount a1 a2 a3 a4 a5 a6 a7
theorem sm_setIdentity {r : Nat} (hr : r < 4) {post : St2 → Prop} {K : zq_K} {f0_n f0_factorCount f0_invariantCount a1 a2 a3 a4 a5 a6 a7 p0 : Nat} {a1f : Nat → Int32} {v_p0 : Int32} (a1h : zq_AE r a1f a1) (e_p0 : v_p0 = nI (zq_pl r p0)) (h : ev_setIdentity K f0_n f0_factorCount f0_invariantCount a1 a2 a3 a4 a5 a6 a7 p0 = true) (hK : zq_H r K post) : wpX_setIdentity post ((nI f0_n), (nI f0_factorCount), (nI f0_invariantCount), a1f, (zq_ar a2), (zq_ar a3), (zq_ar a4), (zq_ar a5), (zq_ar a6), (zq_ar a7)) v_p0 := by
  subst e_p0
  unfold ev_setIdentity at h
  unfold wpX_setIdentity
  dsimp only
  refine ⟨40, ?_⟩
  exact sm_setIdentity_2 hr  hK p0 40 0 f0_n f0_factorCount f0_invariantCount a1 a2 a3 a4 a5 a6 a7 a1f a1h h
noncomputable def ev_scaleRow_3 (K : zq_K) (x1 x2 x3 : Nat) (n : Nat) : Nat → Nat → Nat → Nat → Nat → Nat → Nat → Nat → Nat → Nat → Nat → Bool := @Nat.rec (fun _ => Nat → Nat → Nat → Nat → Nat → Nat → Nat → Nat → Nat → Nat → Nat → Bool) (fun _ _ _ _ _ _ _ _ _ _ _ => false) (fun _ ih => fun x4 f0_n f0_factorCount f0_invariantCount a1 a2 a3 a4 a5 a6 a7 => zq_if (zq_le f0_n x4) (K f0_n f0_factorCount f0_invariantCount a1 a2 a3 a4 a5 a6 a7) (ev_entry (fun r_2 => zq_fo (zq_mul r_2 x3) (fun x5_3 => zq_fo (zq_rem x5_3 5) (fun q0 => ev_setEntry (fun f0_n_6 f0_factorCount_7 f0_invariantCount_8 am331_11 am332_14 am333_17 am334_20 am335_23 am336_26 am337_29 => zq_fo (zq_add x4 1) (fun x4_30 => ih x4_30 f0_n_6 f0_factorCount_7 f0_invariantCount_8 am331_11 am332_14 am333_17 am334_20 am335_23 am336_26 am337_29)) f0_n f0_factorCount f0_invariantCount a1 a2 a3 a4 a5 a6 a7 x1 x2 x4 q0))) a1 x1 x2 x4)) n
theorem eq_scaleRow_3 (K : zq_K) (n x1 x2 x3 x4 f0_n f0_factorCount f0_invariantCount a1 a2 a3 a4 a5 a6 a7 : Nat) : ev_scaleRow_3 K x1 x2 x3 (n + 1) x4 f0_n f0_factorCount f0_invariantCount a1 a2 a3 a4 a5 a6 a7 = (zq_if (zq_le f0_n x4) (K f0_n f0_factorCount f0_invariantCount a1 a2 a3 a4 a5 a6 a7) (ev_entry (fun r_2 => zq_fo (zq_mul r_2 x3) (fun x5_3 => zq_fo (zq_rem x5_3 5) (fun q0 => ev_setEntry (fun f0_n_6 f0_factorCount_7 f0_invariantCount_8 am331_11 am332_14 am333_17 am334_20 am335_23 am336_26 am337_29 => zq_fo (zq_add x4 1) (fun x4_30 => (ev_scaleRow_3 K x1 x2 x3 n) x4_30 f0_n_6 f0_factorCount_7 f0_invariantCount_8 am331_11 am332_14 am333_17 am334_20 am335_23 am336_26 am337_29)) f0_n f0_factorCount f0_invariantCount a1 a2 a3 a4 a5 a6 a7 x1 x2 x4 q0))) a1 x1 x2 x4)) := rfl
theorem sm_scaleRow_3 {r : Nat} (hr : r < 4) {post : St2 → Prop} {K : zq_K} (hK : zq_H r K post) (x1 x2 x3 : Nat) : ∀ (n x4 f0_n f0_factorCount f0_invariantCount a1 a2 a3 a4 a5 a6 a7 : Nat) (a1f : Nat → Int32), zq_AE r a1f a1 → ev_scaleRow_3 K x1 x2 x3 n x4 f0_n f0_factorCount f0_invariantCount a1 a2 a3 a4 a5 a6 a7 = true → wX_scaleRow_3 post (nI (zq_pl r x1)) (nI x2) (nI x3) n (nI x4) (nI f0_n) (nI f0_factorCount) (nI f0_invariantCount) a1f (zq_ar a2) (zq_ar a3) (zq_ar a4) (zq_ar a5) (zq_ar a6) (zq_ar a7) := by
  intro n
  induction n with
  | zero =>
    intro x4 f0_n f0_factorCount f0_invariantCount a1 a2 a3 a4 a5 a6 a7 a1f a1h h
    exact absurd h Bool.false_ne_true
  | succ n ih =>
    intro x4 f0_n f0_factorCount f0_invariantCount a1 a2 a3 a4 a5 a6 a7 a1f a1h h
    rw [eq_scaleRow_3] at h
    refine zf_if (zc_le (Eq.refl (nI f0_n)) (Eq.refl (nI x4))) h (fun h => ?_) (fun h => ?_)
    · exact hK _ _ _ _ _ _ _ _ _ _ _ a1h h
    · refine sm_entry hr a1h (Eq.refl (nI (zq_pl r x1))) (Eq.refl (nI x2)) (Eq.refl (nI x4)) h (fun q_v r_2 q_e h => ?_)
      subst q_e
      refine zf_nm (zt_mul (Eq.refl (nI r_2)) (Eq.refl (nI x3))) h (fun x5_3 h => ?_)
      refine zf_5 ?_
      have h := zq_fo_t h
      refine sm_setEntry hr a1h (Eq.refl (nI (zq_pl r x1))) (Eq.refl (nI x2)) (Eq.refl (nI x4)) (zt_rem (Eq.refl (nI x5_3)) (show (5 : Int32) = nI 5 from rfl)) h (fun f0_n_6 f0_factorCount_7 f0_invariantCount_8 am331_11 am332_14 am333_17 am334_20 am335_23 am336_26 am337_29 am331_11f am331_11h h => ?_)
      refine zf_nm (zt_add (Eq.refl (nI x4)) (show (1 : Int32) = nI 1 from rfl)) h (fun x4_30 h => ?_)
      exact ih x4_30 f0_n_6 f0_factorCount_7 f0_invariantCount_8 am331_11 am332_14 am333_17 am334_20 am335_23 am336_26 am337_29 am331_11f am331_11h h
noncomputable def ev_scaleRow (K : zq_K) (f0_n f0_factorCount f0_invariantCount a1 a2 a3 a4 a5 a6 a7 p0 p1 p2 : Nat) : Bool := ev_scaleRow_3 K p0 p1 p2 40 0 f0_n f0_factorCount f0_invariantCount a1 a2 a3 a4 a5 a6 a7
theorem sm_scaleRow {r : Nat} (hr : r < 4) {post : St2 → Prop} {K : zq_K} {f0_n f0_factorCount f0_invariantCount a1 a2 a3 a4 a5 a6 a7 p0 p1 p2 : Nat} {a1f : Nat → Int32} {v_p0 v_p1 v_p2 : Int32} (a1h : zq_AE r a1f a1) (e_p0 : v_p0 = nI (zq_pl r p0)) (e_p1 : v_p1 = nI p1) (e_p2 : v_p2 = nI p2) (h : ev_scaleRow K f0_n f0_factorCount f0_invariantCount a1 a2 a3 a4 a5 a6 a7 p0 p1 p2 = true) (hK : zq_H r K post) : wpX_scaleRow post ((nI f0_n), (nI f0_factorCount), (nI f0_invariantCount), a1f, (zq_ar a2), (zq_ar a3), (zq_ar a4), (zq_ar a5), (zq_ar a6), (zq_ar a7)) v_p0 v_p1 v_p2 := by
  subst e_p0 e_p1 e_p2
  unfold ev_scaleRow at h
  unfold wpX_scaleRow
  dsimp only
  refine ⟨40, ?_⟩
  exact sm_scaleRow_3 hr  hK p0 p1 p2 40 0 f0_n f0_factorCount f0_invariantCount a1 a2 a3 a4 a5 a6 a7 a1f a1h h
noncomputable def ev_eliminate_109 (K : Nat → zq_K) (B_J5 : Nat → Nat → Nat → Nat → Nat → Nat → Nat → Nat → Nat → Nat → Nat → Nat → Bool) (x1 x2 x3 x4 : Nat) (n : Nat) : Nat → Nat → Nat → Nat → Nat → Nat → Nat → Nat → Nat → Nat → Nat → Bool := @Nat.rec (fun _ => Nat → Nat → Nat → Nat → Nat → Nat → Nat → Nat → Nat → Nat → Nat → Bool) (fun _ _ _ _ _ _ _ _ _ _ _ => false) (fun _ ih => fun x8 f0_n f0_factorCount f0_invariantCount am1031 am1032 am1033 am1034 am1035 am1036 am1037 => zq_if (zq_le f0_n x8) (zq_fo (zq_add x3 1) (fun x3_107 => zq_fo (zq_add x4 1) (fun x4_108 => B_J5 x3_107 x4_108 f0_n f0_factorCount f0_invariantCount am1031 am1032 am1033 am1034 am1035 am1036 am1037))) (ev_entry (fun r_109 => zq_if (zq_eq x8 x3) (zq_fo (zq_add x8 1) (fun x8_111 => ih x8_111 f0_n f0_factorCount f0_invariantCount am1031 am1032 am1033 am1034 am1035 am1036 am1037)) (zq_if (zq_eq r_109 0) (zq_fo (zq_add x8 1) (fun x8_164 => ih x8_164 f0_n f0_factorCount f0_invariantCount am1031 am1032 am1033 am1034 am1035 am1036 am1037)) (ev_subtractRow (fun f0_n_114 f0_factorCount_115 f0_invariantCount_116 am1501_119 am1502_122 am1503_125 am1504_128 am1505_131 am1506_134 am1507_137 => ev_subtractRow (fun f0_n_139 f0_factorCount_140 f0_invariantCount_141 am1601_144 am1602_147 am1603_150 am1604_153 am1605_156 am1606_159 am1607_162 => zq_fo (zq_add x8 1) (fun x8_163 => ih x8_163 f0_n_139 f0_factorCount_140 f0_invariantCount_141 am1601_144 am1602_147 am1603_150 am1604_153 am1605_156 am1606_159 am1607_162)) f0_n_114 f0_factorCount_115 f0_invariantCount_116 am1501_119 am1502_122 am1503_125 am1504_128 am1505_131 am1506_134 am1507_137 x2 x8 x3 r_109) f0_n f0_factorCount f0_invariantCount am1031 am1032 am1033 am1034 am1035 am1036 am1037 x1 x8 x3 r_109))) am1031 x1 x8 x4)) n
theorem eq_eliminate_109 (K : Nat → zq_K) (B_J5 : Nat → Nat → Nat → Nat → Nat → Nat → Nat → Nat → Nat → Nat → Nat → Nat → Bool) (n x1 x2 x3 x4 x8 f0_n f0_factorCount f0_invariantCount am1031 am1032 am1033 am1034 am1035 am1036 am1037 : Nat) : ev_eliminate_109 K B_J5 x1 x2 x3 x4 (n + 1) x8 f0_n f0_factorCount f0_invariantCount am1031 am1032 am1033 am1034 am1035 am1036 am1037 = (zq_if (zq_le f0_n x8) (zq_fo (zq_add x3 1) (fun x3_107 => zq_fo (zq_add x4 1) (fun x4_108 => B_J5 x3_107 x4_108 f0_n f0_factorCount f0_invariantCount am1031 am1032 am1033 am1034 am1035 am1036 am1037))) (ev_entry (fun r_109 => zq_if (zq_eq x8 x3) (zq_fo (zq_add x8 1) (fun x8_111 => (ev_eliminate_109 K B_J5 x1 x2 x3 x4 n) x8_111 f0_n f0_factorCount f0_invariantCount am1031 am1032 am1033 am1034 am1035 am1036 am1037)) (zq_if (zq_eq r_109 0) (zq_fo (zq_add x8 1) (fun x8_164 => (ev_eliminate_109 K B_J5 x1 x2 x3 x4 n) x8_164 f0_n f0_factorCount f0_invariantCount am1031 am1032 am1033 am1034 am1035 am1036 am1037)) (ev_subtractRow (fun f0_n_114 f0_factorCount_115 f0_invariantCount_116 am1501_119 am1502_122 am1503_125 am1504_128 am1505_131 am1506_134 am1507_137 => ev_subtractRow (fun f0_n_139 f0_factorCount_140 f0_invariantCount_141 am1601_144 am1602_147 am1603_150 am1604_153 am1605_156 am1606_159 am1607_162 => zq_fo (zq_add x8 1) (fun x8_163 => (ev_eliminate_109 K B_J5 x1 x2 x3 x4 n) x8_163 f0_n_139 f0_factorCount_140 f0_invariantCount_141 am1601_144 am1602_147 am1603_150 am1604_153 am1605_156 am1606_159 am1607_162)) f0_n_114 f0_factorCount_115 f0_invariantCount_116 am1501_119 am1502_122 am1503_125 am1504_128 am1505_131 am1506_134 am1507_137 x2 x8 x3 r_109) f0_n f0_factorCount f0_invariantCount am1031 am1032 am1033 am1034 am1035 am1036 am1037 x1 x8 x3 r_109))) am1031 x1 x8 x4)) := rfl
theorem sm_eliminate_109 {r : Nat} (hr : r < 4) {post : Int32 → St2 → Prop} {K : Nat → zq_K} {J5 : Int32 → Int32 → Int32 → Int32 → Int32 → (Nat → Int32) → (Nat → Int32) → (Nat → Int32) → (Nat → Int32) → (Nat → Int32) → (Nat → Int32) → (Nat → Int32) → Prop} {B_J5 : Nat → Nat → Nat → Nat → Nat → Nat → Nat → Nat → Nat → Nat → Nat → Nat → Bool} (hK : zq_HW r K post) (hJ5 : ∀ (y0 y1 y2 y3 y4 y5 y6 y7 y8 y9 y10 y11 : Nat) (yf : Nat → Int32), zq_AE r yf y5 → B_J5 y0 y1 y2 y3 y4 y5 y6 y7 y8 y9 y10 y11 = true → J5 (nI y0) (nI y1) (nI y2) (nI y3) (nI y4) yf (zq_ar y6) (zq_ar y7) (zq_ar y8) (zq_ar y9) (zq_ar y10) (zq_ar y11)) (x1 x2 x3 x4 : Nat) : ∀ (n x8 f0_n f0_factorCount f0_invariantCount am1031 am1032 am1033 am1034 am1035 am1036 am1037 : Nat) (am1031f : Nat → Int32), zq_AE r am1031f am1031 → ev_eliminate_109 K B_J5 x1 x2 x3 x4 n x8 f0_n f0_factorCount f0_invariantCount am1031 am1032 am1033 am1034 am1035 am1036 am1037 = true → wX_eliminate_109 post J5 (nI (zq_pl r x1)) (nI (zq_pl r x2)) (nI x3) (nI x4) n (nI x8) (nI f0_n) (nI f0_factorCount) (nI f0_invariantCount) am1031f (zq_ar am1032) (zq_ar am1033) (zq_ar am1034) (zq_ar am1035) (zq_ar am1036) (zq_ar am1037) := by
  intro n
  induction n with
  | zero =>
    intro x8 f0_n f0_factorCount f0_invariantCount am1031 am1032 am1033 am1034 am1035 am1036 am1037 am1031f am1031h h
    exact absurd h Bool.false_ne_true
  | succ n ih =>
    intro x8 f0_n f0_factorCount f0_invariantCount am1031 am1032 am1033 am1034 am1035 am1036 am1037 am1031f am1031h h
    rw [eq_eliminate_109] at h
    refine zf_if (zc_le (Eq.refl (nI f0_n)) (Eq.refl (nI x8))) h (fun h => ?_) (fun h => ?_)
    · refine zf_nm (zt_add (Eq.refl (nI x3)) (show (1 : Int32) = nI 1 from rfl)) h (fun x3_107 h => ?_)
      refine zf_nm (zt_add (Eq.refl (nI x4)) (show (1 : Int32) = nI 1 from rfl)) h (fun x4_108 h => ?_)
      exact hJ5 x3_107 x4_108 f0_n f0_factorCount f0_invariantCount am1031 am1032 am1033 am1034 am1035 am1036 am1037 am1031f am1031h h
    · refine sm_entry hr am1031h (Eq.refl (nI (zq_pl r x1))) (Eq.refl (nI x8)) (Eq.refl (nI x4)) h (fun q_v r_109 q_e h => ?_)
      subst q_e
      refine zf_if (zc_eq (Eq.refl (nI x8)) (Eq.refl (nI x3))) h (fun h => ?_) (fun h => ?_)
      · refine zf_nm (zt_add (Eq.refl (nI x8)) (show (1 : Int32) = nI 1 from rfl)) h (fun x8_111 h => ?_)
        exact ih x8_111 f0_n f0_factorCount f0_invariantCount am1031 am1032 am1033 am1034 am1035 am1036 am1037 am1031f am1031h h
      · refine zf_if (zc_eq (Eq.refl (nI r_109)) (show (0 : Int32) = nI 0 from rfl)) h (fun h => ?_) (fun h => ?_)
        · refine zf_nm (zt_add (Eq.refl (nI x8)) (show (1 : Int32) = nI 1 from rfl)) h (fun x8_164 h => ?_)
          exact ih x8_164 f0_n f0_factorCount f0_invariantCount am1031 am1032 am1033 am1034 am1035 am1036 am1037 am1031f am1031h h
        · refine sm_subtractRow hr am1031h (Eq.refl (nI (zq_pl r x1))) (Eq.refl (nI x8)) (Eq.refl (nI x3)) (Eq.refl (nI r_109)) h (fun f0_n_114 f0_factorCount_115 f0_invariantCount_116 am1501_119 am1502_122 am1503_125 am1504_128 am1505_131 am1506_134 am1507_137 am1501_119f am1501_119h h => ?_)
          refine sm_subtractRow hr am1501_119h (Eq.refl (nI (zq_pl r x2))) (Eq.refl (nI x8)) (Eq.refl (nI x3)) (Eq.refl (nI r_109)) h (fun f0_n_139 f0_factorCount_140 f0_invariantCount_141 am1601_144 am1602_147 am1603_150 am1604_153 am1605_156 am1606_159 am1607_162 am1601_144f am1601_144h h => ?_)
          refine zf_nm (zt_add (Eq.refl (nI x8)) (show (1 : Int32) = nI 1 from rfl)) h (fun x8_163 h => ?_)
          exact ih x8_163 f0_n_139 f0_factorCount_140 f0_invariantCount_141 am1601_144 am1602_147 am1603_150 am1604_153 am1605_156 am1606_159 am1607_162 am1601_144f am1601_144h h
noncomputable def ev_eliminate_44 (K : Nat → zq_K) (B_J5 : Nat → Nat → Nat → Nat → Nat → Nat → Nat → Nat → Nat → Nat → Nat → Nat → Bool) (x1 x2 x3 x4 x5 f0_n f0_factorCount f0_invariantCount a1 a2 a3 a4 a5 a6 a7 : Nat) : Bool := zq_if (zq_eq x5 f0_n) (zq_fo (zq_add x4 1) (fun x4_165 => B_J5 x3 x4_165 f0_n f0_factorCount f0_invariantCount a1 a2 a3 a4 a5 a6 a7)) (ev_exchangeRows (fun f0_n_5 f0_factorCount_6 f0_invariantCount_7 am611_10 am612_13 am613_16 am614_19 am615_22 am616_25 am617_28 => ev_exchangeRows (fun f0_n_30 f0_factorCount_31 f0_invariantCount_32 am691_35 am692_38 am693_41 am694_44 am695_47 am696_50 am697_53 => ev_entry (fun r_54 => ev_inverseOf (fun r_55 => ev_scaleRow (fun f0_n_57 f0_factorCount_58 f0_invariantCount_59 am951_62 am952_65 am953_68 am954_71 am955_74 am956_77 am957_80 => ev_scaleRow (fun f0_n_82 f0_factorCount_83 f0_invariantCount_84 am1031_87 am1032_90 am1033_93 am1034_96 am1035_99 am1036_102 am1037_105 => ev_eliminate_109 K B_J5 x1 x2 x3 x4 40 0 f0_n_82 f0_factorCount_83 f0_invariantCount_84 am1031_87 am1032_90 am1033_93 am1034_96 am1035_99 am1036_102 am1037_105) f0_n_57 f0_factorCount_58 f0_invariantCount_59 am951_62 am952_65 am953_68 am954_71 am955_74 am956_77 am957_80 x2 x3 r_55) f0_n_30 f0_factorCount_31 f0_invariantCount_32 am691_35 am692_38 am693_41 am694_44 am695_47 am696_50 am697_53 x1 x3 r_55) f0_n_30 f0_factorCount_31 f0_invariantCount_32 am691_35 am692_38 am693_41 am694_44 am695_47 am696_50 am697_53 r_54) am691_35 x1 x3 x4) f0_n_5 f0_factorCount_6 f0_invariantCount_7 am611_10 am612_13 am613_16 am614_19 am615_22 am616_25 am617_28 x2 x5 x3) f0_n f0_factorCount f0_invariantCount a1 a2 a3 a4 a5 a6 a7 x1 x5 x3)
theorem sm_eliminate_44 {r : Nat} (hr : r < 4) {post : Int32 → St2 → Prop} {K : Nat → zq_K} {J5 : Int32 → Int32 → Int32 → Int32 → Int32 → (Nat → Int32) → (Nat → Int32) → (Nat → Int32) → (Nat → Int32) → (Nat → Int32) → (Nat → Int32) → (Nat → Int32) → Prop} {B_J5 : Nat → Nat → Nat → Nat → Nat → Nat → Nat → Nat → Nat → Nat → Nat → Nat → Bool} (hK : zq_HW r K post) (hJ5 : ∀ (y0 y1 y2 y3 y4 y5 y6 y7 y8 y9 y10 y11 : Nat) (yf : Nat → Int32), zq_AE r yf y5 → B_J5 y0 y1 y2 y3 y4 y5 y6 y7 y8 y9 y10 y11 = true → J5 (nI y0) (nI y1) (nI y2) (nI y3) (nI y4) yf (zq_ar y6) (zq_ar y7) (zq_ar y8) (zq_ar y9) (zq_ar y10) (zq_ar y11)) (x1 x2 x3 x4 x5 f0_n f0_factorCount f0_invariantCount a1 a2 a3 a4 a5 a6 a7 : Nat) (a1f : Nat → Int32) (a1h : zq_AE r a1f a1) (h : ev_eliminate_44 K B_J5 x1 x2 x3 x4 x5 f0_n f0_factorCount f0_invariantCount a1 a2 a3 a4 a5 a6 a7 = true) : wX_eliminate_44 post J5 (nI (zq_pl r x1)) (nI (zq_pl r x2)) (nI x3) (nI x4) (nI x5) (nI f0_n) (nI f0_factorCount) (nI f0_invariantCount) a1f (zq_ar a2) (zq_ar a3) (zq_ar a4) (zq_ar a5) (zq_ar a6) (zq_ar a7) := by
  unfold ev_eliminate_44 at h
  unfold wX_eliminate_44
  refine zf_if (zc_eq (Eq.refl (nI x5)) (Eq.refl (nI f0_n))) h (fun h => ?_) (fun h => ?_)
  · refine zf_nm (zt_add (Eq.refl (nI x4)) (show (1 : Int32) = nI 1 from rfl)) h (fun x4_165 h => ?_)
    exact hJ5 x3 x4_165 f0_n f0_factorCount f0_invariantCount a1 a2 a3 a4 a5 a6 a7 a1f a1h h
  · refine sm_exchangeRows hr a1h (Eq.refl (nI (zq_pl r x1))) (Eq.refl (nI x5)) (Eq.refl (nI x3)) h (fun f0_n_5 f0_factorCount_6 f0_invariantCount_7 am611_10 am612_13 am613_16 am614_19 am615_22 am616_25 am617_28 am611_10f am611_10h h => ?_)
    refine sm_exchangeRows hr am611_10h (Eq.refl (nI (zq_pl r x2))) (Eq.refl (nI x5)) (Eq.refl (nI x3)) h (fun f0_n_30 f0_factorCount_31 f0_invariantCount_32 am691_35 am692_38 am693_41 am694_44 am695_47 am696_50 am697_53 am691_35f am691_35h h => ?_)
    refine sm_entry hr am691_35h (Eq.refl (nI (zq_pl r x1))) (Eq.refl (nI x3)) (Eq.refl (nI x4)) h (fun q_v r_54 q_e h => ?_)
    subst q_e
    refine sm_inverseOf hr am691_35h (Eq.refl (nI r_54)) h (fun q_v r_55 q_e h => ?_)
    subst q_e
    refine sm_scaleRow hr am691_35h (Eq.refl (nI (zq_pl r x1))) (Eq.refl (nI x3)) (Eq.refl (nI r_55)) h (fun f0_n_57 f0_factorCount_58 f0_invariantCount_59 am951_62 am952_65 am953_68 am954_71 am955_74 am956_77 am957_80 am951_62f am951_62h h => ?_)
    refine sm_scaleRow hr am951_62h (Eq.refl (nI (zq_pl r x2))) (Eq.refl (nI x3)) (Eq.refl (nI r_55)) h (fun f0_n_82 f0_factorCount_83 f0_invariantCount_84 am1031_87 am1032_90 am1033_93 am1034_96 am1035_99 am1036_102 am1037_105 am1031_87f am1031_87h h => ?_)
    refine ⟨40, ?_⟩
    exact sm_eliminate_109 hr  hK hJ5 x1 x2 x3 x4 40 0 f0_n_82 f0_factorCount_83 f0_invariantCount_84 am1031_87 am1032_90 am1033_93 am1034_96 am1035_99 am1036_102 am1037_105 am1031_87f am1031_87h h
noncomputable def ev_eliminate_17 (K : Nat → zq_K) (B_J5 : Nat → Nat → Nat → Nat → Nat → Nat → Nat → Nat → Nat → Nat → Nat → Nat → Bool) (x1 x2 x3 x4 f0_n f0_factorCount f0_invariantCount a1 a2 a3 a4 a5 a6 a7 : Nat) (n : Nat) : Nat → Bool := @Nat.rec (fun _ => Nat → Bool) (fun _ => false) (fun _ ih => fun x5 => zq_if (zq_le f0_n x5) (ev_eliminate_44 K B_J5 x1 x2 x3 x4 x5 f0_n f0_factorCount f0_invariantCount a1 a2 a3 a4 a5 a6 a7) (ev_entry (fun r_166 => zq_if (zq_eq r_166 0) (zq_fo (zq_add x5 1) (fun x5_168 => ih x5_168)) (ev_eliminate_44 K B_J5 x1 x2 x3 x4 x5 f0_n f0_factorCount f0_invariantCount a1 a2 a3 a4 a5 a6 a7)) a1 x1 x5 x4)) n
theorem eq_eliminate_17 (K : Nat → zq_K) (B_J5 : Nat → Nat → Nat → Nat → Nat → Nat → Nat → Nat → Nat → Nat → Nat → Nat → Bool) (n x1 x2 x3 x4 f0_n f0_factorCount f0_invariantCount a1 a2 a3 a4 a5 a6 a7 x5 : Nat) : ev_eliminate_17 K B_J5 x1 x2 x3 x4 f0_n f0_factorCount f0_invariantCount a1 a2 a3 a4 a5 a6 a7 (n + 1) x5 = (zq_if (zq_le f0_n x5) (ev_eliminate_44 K B_J5 x1 x2 x3 x4 x5 f0_n f0_factorCount f0_invariantCount a1 a2 a3 a4 a5 a6 a7) (ev_entry (fun r_166 => zq_if (zq_eq r_166 0) (zq_fo (zq_add x5 1) (fun x5_168 => (ev_eliminate_17 K B_J5 x1 x2 x3 x4 f0_n f0_factorCount f0_invariantCount a1 a2 a3 a4 a5 a6 a7 n) x5_168)) (ev_eliminate_44 K B_J5 x1 x2 x3 x4 x5 f0_n f0_factorCount f0_invariantCount a1 a2 a3 a4 a5 a6 a7)) a1 x1 x5 x4)) := rfl
theorem sm_eliminate_17 {r : Nat} (hr : r < 4) {post : Int32 → St2 → Prop} {K : Nat → zq_K} {J5 : Int32 → Int32 → Int32 → Int32 → Int32 → (Nat → Int32) → (Nat → Int32) → (Nat → Int32) → (Nat → Int32) → (Nat → Int32) → (Nat → Int32) → (Nat → Int32) → Prop} {B_J5 : Nat → Nat → Nat → Nat → Nat → Nat → Nat → Nat → Nat → Nat → Nat → Nat → Bool} (hK : zq_HW r K post) (hJ5 : ∀ (y0 y1 y2 y3 y4 y5 y6 y7 y8 y9 y10 y11 : Nat) (yf : Nat → Int32), zq_AE r yf y5 → B_J5 y0 y1 y2 y3 y4 y5 y6 y7 y8 y9 y10 y11 = true → J5 (nI y0) (nI y1) (nI y2) (nI y3) (nI y4) yf (zq_ar y6) (zq_ar y7) (zq_ar y8) (zq_ar y9) (zq_ar y10) (zq_ar y11)) (x1 x2 x3 x4 f0_n f0_factorCount f0_invariantCount a1 a2 a3 a4 a5 a6 a7 : Nat) (a1f : Nat → Int32) (a1h : zq_AE r a1f a1) : ∀ (n x5 : Nat), ev_eliminate_17 K B_J5 x1 x2 x3 x4 f0_n f0_factorCount f0_invariantCount a1 a2 a3 a4 a5 a6 a7 n x5 = true → wX_eliminate_17 post J5 (nI (zq_pl r x1)) (nI (zq_pl r x2)) (nI x3) (nI x4) (nI f0_n) (nI f0_factorCount) (nI f0_invariantCount) a1f (zq_ar a2) (zq_ar a3) (zq_ar a4) (zq_ar a5) (zq_ar a6) (zq_ar a7) n (nI x5) := by
  intro n
  induction n with
  | zero =>
    intro x5 h
    exact absurd h Bool.false_ne_true
  | succ n ih =>
    intro x5 h
    rw [eq_eliminate_17] at h
    refine zf_if (zc_le (Eq.refl (nI f0_n)) (Eq.refl (nI x5))) h (fun h => ?_) (fun h => ?_)
    · exact sm_eliminate_44 hr  hK hJ5 x1 x2 x3 x4 x5 f0_n f0_factorCount f0_invariantCount a1 a2 a3 a4 a5 a6 a7 a1f a1h h
    · refine sm_entry hr a1h (Eq.refl (nI (zq_pl r x1))) (Eq.refl (nI x5)) (Eq.refl (nI x4)) h (fun q_v r_166 q_e h => ?_)
      subst q_e
      refine zf_if (zc_eq (Eq.refl (nI r_166)) (show (0 : Int32) = nI 0 from rfl)) h (fun h => ?_) (fun h => ?_)
      · refine zf_nm (zt_add (Eq.refl (nI x5)) (show (1 : Int32) = nI 1 from rfl)) h (fun x5_168 h => ?_)
        exact ih x5_168 h
      · exact sm_eliminate_44 hr  hK hJ5 x1 x2 x3 x4 x5 f0_n f0_factorCount f0_invariantCount a1 a2 a3 a4 a5 a6 a7 a1f a1h h
noncomputable def ev_eliminate_5 (K : Nat → zq_K) (x1 x2 : Nat) (n : Nat) : Nat → Nat → Nat → Nat → Nat → Nat → Nat → Nat → Nat → Nat → Nat → Nat → Bool := @Nat.rec (fun _ => Nat → Nat → Nat → Nat → Nat → Nat → Nat → Nat → Nat → Nat → Nat → Nat → Bool) (fun _ _ _ _ _ _ _ _ _ _ _ _ => false) (fun _ ih => fun x3 x4 f0_n f0_factorCount f0_invariantCount a1 a2 a3 a4 a5 a6 a7 => zq_if (zq_le f0_n x4) (K x3 f0_n f0_factorCount f0_invariantCount a1 a2 a3 a4 a5 a6 a7) (ev_eliminate_17 K ih x1 x2 x3 x4 f0_n f0_factorCount f0_invariantCount a1 a2 a3 a4 a5 a6 a7 40 x3)) n
theorem eq_eliminate_5 (K : Nat → zq_K) (n x1 x2 x3 x4 f0_n f0_factorCount f0_invariantCount a1 a2 a3 a4 a5 a6 a7 : Nat) : ev_eliminate_5 K x1 x2 (n + 1) x3 x4 f0_n f0_factorCount f0_invariantCount a1 a2 a3 a4 a5 a6 a7 = (zq_if (zq_le f0_n x4) (K x3 f0_n f0_factorCount f0_invariantCount a1 a2 a3 a4 a5 a6 a7) (ev_eliminate_17 K (ev_eliminate_5 K x1 x2 n) x1 x2 x3 x4 f0_n f0_factorCount f0_invariantCount a1 a2 a3 a4 a5 a6 a7 40 x3)) := rfl
theorem sm_eliminate_5 {r : Nat} (hr : r < 4) {post : Int32 → St2 → Prop} {K : Nat → zq_K} (hK : zq_HW r K post) (x1 x2 : Nat) : ∀ (n x3 x4 f0_n f0_factorCount f0_invariantCount a1 a2 a3 a4 a5 a6 a7 : Nat) (a1f : Nat → Int32), zq_AE r a1f a1 → ev_eliminate_5 K x1 x2 n x3 x4 f0_n f0_factorCount f0_invariantCount a1 a2 a3 a4 a5 a6 a7 = true → wX_eliminate_5 post (nI (zq_pl r x1)) (nI (zq_pl r x2)) n (nI x3) (nI x4) (nI f0_n) (nI f0_factorCount) (nI f0_invariantCount) a1f (zq_ar a2) (zq_ar a3) (zq_ar a4) (zq_ar a5) (zq_ar a6) (zq_ar a7) := by
  intro n
  induction n with
  | zero =>
    intro x3 x4 f0_n f0_factorCount f0_invariantCount a1 a2 a3 a4 a5 a6 a7 a1f a1h h
    exact absurd h Bool.false_ne_true
  | succ n ih =>
    intro x3 x4 f0_n f0_factorCount f0_invariantCount a1 a2 a3 a4 a5 a6 a7 a1f a1h h
    rw [eq_eliminate_5] at h
    refine zf_if (zc_le (Eq.refl (nI f0_n)) (Eq.refl (nI x4))) h (fun h => ?_) (fun h => ?_)
    · exact hK _ _ _ _ _ _ _ _ _ _ _ _ _ (Eq.refl (nI x3)) a1h h
    · refine ⟨40, ?_⟩
      exact sm_eliminate_17 hr (J5 := wX_eliminate_5 post (nI (zq_pl r x1)) (nI (zq_pl r x2)) n) (B_J5 := ev_eliminate_5 K x1 x2 n) hK ih x1 x2 x3 x4 f0_n f0_factorCount f0_invariantCount a1 a2 a3 a4 a5 a6 a7 a1f a1h 40 x3 h
noncomputable def ev_eliminate (K : Nat → zq_K) (f0_n f0_factorCount f0_invariantCount a1 a2 a3 a4 a5 a6 a7 p0 p1 : Nat) : Bool := ev_eliminate_5 K p0 p1 40 0 0 f0_n f0_factorCount f0_invariantCount a1 a2 a3 a4 a5 a6 a7
theorem sm_eliminate {r : Nat} (hr : r < 4) {post : Int32 → St2 → Prop} {K : Nat → zq_K} {f0_n f0_factorCount f0_invariantCount a1 a2 a3 a4 a5 a6 a7 p0 p1 : Nat} {a1f : Nat → Int32} {v_p0 v_p1 : Int32} (a1h : zq_AE r a1f a1) (e_p0 : v_p0 = nI (zq_pl r p0)) (e_p1 : v_p1 = nI (zq_pl r p1)) (h : ev_eliminate K f0_n f0_factorCount f0_invariantCount a1 a2 a3 a4 a5 a6 a7 p0 p1 = true) (hK : zq_HW r K post) : wpX_eliminate post ((nI f0_n), (nI f0_factorCount), (nI f0_invariantCount), a1f, (zq_ar a2), (zq_ar a3), (zq_ar a4), (zq_ar a5), (zq_ar a6), (zq_ar a7)) v_p0 v_p1 := by
  subst e_p0 e_p1
  unfold ev_eliminate at h
  unfold wpX_eliminate
  dsimp only
  refine ⟨40, ?_⟩
  exact sm_eliminate_5 hr  hK p0 p1 40 0 0 f0_n f0_factorCount f0_invariantCount a1 a2 a3 a4 a5 a6 a7 a1f a1h h
noncomputable def ev_rankOf (K : Nat → zq_K) (f0_n f0_factorCount f0_invariantCount a1 a2 a3 a4 a5 a6 a7 p0 : Nat) : Bool := ev_copy (fun f0_n_2 f0_factorCount_3 f0_invariantCount_4 am31_7 am32_10 am33_13 am34_16 am35_19 am36_22 am37_25 => ev_setIdentity (fun f0_n_27 f0_factorCount_28 f0_invariantCount_29 am91_32 am92_35 am93_38 am94_41 am95_44 am96_47 am97_50 => ev_eliminate (fun r_51 f0_n_52 f0_factorCount_53 f0_invariantCount_54 am161_57 am162_60 am163_63 am164_66 am165_69 am166_72 am167_75 => K r_51 f0_n_52 f0_factorCount_53 f0_invariantCount_54 am161_57 am162_60 am163_63 am164_66 am165_69 am166_72 am167_75) f0_n_27 f0_factorCount_28 f0_invariantCount_29 am91_32 am92_35 am93_38 am94_41 am95_44 am96_47 am97_50 2 3) f0_n_2 f0_factorCount_3 f0_invariantCount_4 am31_7 am32_10 am33_13 am34_16 am35_19 am36_22 am37_25 3) f0_n f0_factorCount f0_invariantCount a1 a2 a3 a4 a5 a6 a7 2 p0
theorem sm_rankOf {r : Nat} (hr : r < 4) {post : Int32 → St2 → Prop} {K : Nat → zq_K} {f0_n f0_factorCount f0_invariantCount a1 a2 a3 a4 a5 a6 a7 p0 : Nat} {a1f : Nat → Int32} {v_p0 : Int32} (a1h : zq_AE r a1f a1) (e_p0 : v_p0 = nI (zq_pl r p0)) (h : ev_rankOf K f0_n f0_factorCount f0_invariantCount a1 a2 a3 a4 a5 a6 a7 p0 = true) (hK : zq_HW r K post) : wpX_rankOf post ((nI f0_n), (nI f0_factorCount), (nI f0_invariantCount), a1f, (zq_ar a2), (zq_ar a3), (zq_ar a4), (zq_ar a5), (zq_ar a6), (zq_ar a7)) v_p0 := by
  subst e_p0
  unfold ev_rankOf at h
  unfold wpX_rankOf
  dsimp only
  refine sm_copy hr a1h (show (5 : Int32) = nI (zq_pl r 2) from rfl) (Eq.refl (nI (zq_pl r p0))) h (fun f0_n_2 f0_factorCount_3 f0_invariantCount_4 am31_7 am32_10 am33_13 am34_16 am35_19 am36_22 am37_25 am31_7f am31_7h h => ?_)
  refine sm_setIdentity hr am31_7h (show (6 : Int32) = nI (zq_pl r 3) from rfl) h (fun f0_n_27 f0_factorCount_28 f0_invariantCount_29 am91_32 am92_35 am93_38 am94_41 am95_44 am96_47 am97_50 am91_32f am91_32h h => ?_)
  refine sm_eliminate hr am91_32h (show (5 : Int32) = nI (zq_pl r 2) from rfl) (show (6 : Int32) = nI (zq_pl r 3) from rfl) h (fun q_v r_51 f0_n_52 f0_factorCount_53 f0_invariantCount_54 am161_57 am162_60 am163_63 am164_66 am165_69 am166_72 am167_75 am161_57f q_e am161_57h h => ?_)
  subst q_e
  exact hK _ _ _ _ _ _ _ _ _ _ _ _ _ (Eq.refl (nI r_51)) am161_57h h
noncomputable def ev_eigen_28 (K : Nat → zq_K) (x1 x2 : Nat) (n : Nat) : Nat → Nat → Nat → Nat → Nat → Nat → Nat → Nat → Nat → Nat → Nat → Bool := @Nat.rec (fun _ => Nat → Nat → Nat → Nat → Nat → Nat → Nat → Nat → Nat → Nat → Nat → Bool) (fun _ _ _ _ _ _ _ _ _ _ _ => false) (fun _ ih => fun x3 f0_n f0_factorCount f0_invariantCount am231 am232 am233 am234 am235 am236 am237 => zq_if (zq_le f0_n x3) (ev_rankOf (fun r_31 f0_n_32 f0_factorCount_33 f0_invariantCount_34 am741_37 am742_40 am743_43 am744_46 am745_49 am746_52 am747_55 => zq_fo (zq_sub f0_n r_31) (fun q => K q f0_n_32 f0_factorCount_33 f0_invariantCount_34 am741_37 am742_40 am743_43 am744_46 am745_49 am746_52 am747_55)) f0_n f0_factorCount f0_invariantCount am231 am232 am233 am234 am235 am236 am237 4) (ev_entry (fun r_56 => zq_fo (zq_sub (zq_add r_56 5) x2) (fun x4_57 => zq_fo (zq_rem x4_57 5) (fun q0 => ev_setEntry (fun f0_n_60 f0_factorCount_61 f0_invariantCount_62 am581_65 am582_68 am583_71 am584_74 am585_77 am586_80 am587_83 => zq_fo (zq_add x3 1) (fun x3_84 => ih x3_84 f0_n_60 f0_factorCount_61 f0_invariantCount_62 am581_65 am582_68 am583_71 am584_74 am585_77 am586_80 am587_83)) f0_n f0_factorCount f0_invariantCount am231 am232 am233 am234 am235 am236 am237 4 x3 x3 q0))) am231 x1 x3 x3)) n
theorem eq_eigen_28 (K : Nat → zq_K) (n x1 x2 x3 f0_n f0_factorCount f0_invariantCount am231 am232 am233 am234 am235 am236 am237 : Nat) : ev_eigen_28 K x1 x2 (n + 1) x3 f0_n f0_factorCount f0_invariantCount am231 am232 am233 am234 am235 am236 am237 = (zq_if (zq_le f0_n x3) (ev_rankOf (fun r_31 f0_n_32 f0_factorCount_33 f0_invariantCount_34 am741_37 am742_40 am743_43 am744_46 am745_49 am746_52 am747_55 => zq_fo (zq_sub f0_n r_31) (fun q => K q f0_n_32 f0_factorCount_33 f0_invariantCount_34 am741_37 am742_40 am743_43 am744_46 am745_49 am746_52 am747_55)) f0_n f0_factorCount f0_invariantCount am231 am232 am233 am234 am235 am236 am237 4) (ev_entry (fun r_56 => zq_fo (zq_sub (zq_add r_56 5) x2) (fun x4_57 => zq_fo (zq_rem x4_57 5) (fun q0 => ev_setEntry (fun f0_n_60 f0_factorCount_61 f0_invariantCount_62 am581_65 am582_68 am583_71 am584_74 am585_77 am586_80 am587_83 => zq_fo (zq_add x3 1) (fun x3_84 => (ev_eigen_28 K x1 x2 n) x3_84 f0_n_60 f0_factorCount_61 f0_invariantCount_62 am581_65 am582_68 am583_71 am584_74 am585_77 am586_80 am587_83)) f0_n f0_factorCount f0_invariantCount am231 am232 am233 am234 am235 am236 am237 4 x3 x3 q0))) am231 x1 x3 x3)) := rfl
theorem sm_eigen_28 {r : Nat} (hr : r < 4) {post : Int32 → St2 → Prop} {K : Nat → zq_K} (hK : zq_HW r K post) (x1 x2 : Nat) : ∀ (n x3 f0_n f0_factorCount f0_invariantCount am231 am232 am233 am234 am235 am236 am237 : Nat) (am231f : Nat → Int32), zq_AE r am231f am231 → ev_eigen_28 K x1 x2 n x3 f0_n f0_factorCount f0_invariantCount am231 am232 am233 am234 am235 am236 am237 = true → wX_eigen_28 post (nI (zq_pl r x1)) (nI x2) n (nI x3) (nI f0_n) (nI f0_factorCount) (nI f0_invariantCount) am231f (zq_ar am232) (zq_ar am233) (zq_ar am234) (zq_ar am235) (zq_ar am236) (zq_ar am237) := by
  intro n
  induction n with
  | zero =>
    intro x3 f0_n f0_factorCount f0_invariantCount am231 am232 am233 am234 am235 am236 am237 am231f am231h h
    exact absurd h Bool.false_ne_true
  | succ n ih =>
    intro x3 f0_n f0_factorCount f0_invariantCount am231 am232 am233 am234 am235 am236 am237 am231f am231h h
    rw [eq_eigen_28] at h
    refine zf_if (zc_le (Eq.refl (nI f0_n)) (Eq.refl (nI x3))) h (fun h => ?_) (fun h => ?_)
    · refine sm_rankOf hr am231h (show (7 : Int32) = nI (zq_pl r 4) from rfl) h (fun q_v r_31 f0_n_32 f0_factorCount_33 f0_invariantCount_34 am741_37 am742_40 am743_43 am744_46 am745_49 am746_52 am747_55 am741_37f q_e am741_37h h => ?_)
      subst q_e
      have h := zq_fo_t h
      exact hK _ _ _ _ _ _ _ _ _ _ _ _ _ (zt_sub (Eq.refl (nI f0_n)) (Eq.refl (nI r_31))) am741_37h h
    · refine sm_entry hr am231h (Eq.refl (nI (zq_pl r x1))) (Eq.refl (nI x3)) (Eq.refl (nI x3)) h (fun q_v r_56 q_e h => ?_)
      subst q_e
      refine zf_nm (zt_sub (zt_add (Eq.refl (nI r_56)) (show (5 : Int32) = nI 5 from rfl)) (Eq.refl (nI x2))) h (fun x4_57 h => ?_)
      refine zf_5 ?_
      have h := zq_fo_t h
      refine sm_setEntry hr am231h (show (7 : Int32) = nI (zq_pl r 4) from rfl) (Eq.refl (nI x3)) (Eq.refl (nI x3)) (zt_rem (Eq.refl (nI x4_57)) (show (5 : Int32) = nI 5 from rfl)) h (fun f0_n_60 f0_factorCount_61 f0_invariantCount_62 am581_65 am582_68 am583_71 am584_74 am585_77 am586_80 am587_83 am581_65f am581_65h h => ?_)
      refine zf_nm (zt_add (Eq.refl (nI x3)) (show (1 : Int32) = nI 1 from rfl)) h (fun x3_84 h => ?_)
      exact ih x3_84 f0_n_60 f0_factorCount_61 f0_invariantCount_62 am581_65 am582_68 am583_71 am584_74 am585_77 am586_80 am587_83 am581_65f am581_65h h
noncomputable def ev_load_10 (K : zq_K) (x1 f0_n f0_factorCount f0_invariantCount : Nat) (n : Nat) : Nat → Nat → Nat → Nat → Nat → Nat → Nat → Nat → Nat → Bool := @Nat.rec (fun _ => Nat → Nat → Nat → Nat → Nat → Nat → Nat → Nat → Nat → Bool) (fun _ _ _ _ _ _ _ _ _ => false) (fun _ ih => fun x3 x4 am21 am22 am23 am24 am25 am26 am27 => zq_if (zq_le x3 0) (K f0_n f0_factorCount f0_invariantCount am21 am22 am23 am24 am25 am26 am27) (zq_if (Nat.ble (Nat.succ (zq_add (zq_mul 10 x1) x4)) 130) (zq_up am22 (zq_cl (zq_add (zq_mul 10 x1) x4)) (zq_b (zq_rem x3 5)) (fun am22_29 => zq_fo (zq_div x3 5) (fun x3_31 => zq_fo (zq_add x4 1) (fun x4_32 => ih x3_31 x4_32 am21 am22_29 am23 am24 am25 am26 am27)))) false)) n
theorem eq_load_10 (K : zq_K) (n x1 f0_n f0_factorCount f0_invariantCount x3 x4 am21 am22 am23 am24 am25 am26 am27 : Nat) : ev_load_10 K x1 f0_n f0_factorCount f0_invariantCount (n + 1) x3 x4 am21 am22 am23 am24 am25 am26 am27 = (zq_if (zq_le x3 0) (K f0_n f0_factorCount f0_invariantCount am21 am22 am23 am24 am25 am26 am27) (zq_if (Nat.ble (Nat.succ (zq_add (zq_mul 10 x1) x4)) 130) (zq_up am22 (zq_cl (zq_add (zq_mul 10 x1) x4)) (zq_b (zq_rem x3 5)) (fun am22_29 => zq_fo (zq_div x3 5) (fun x3_31 => zq_fo (zq_add x4 1) (fun x4_32 => (ev_load_10 K x1 f0_n f0_factorCount f0_invariantCount n) x3_31 x4_32 am21 am22_29 am23 am24 am25 am26 am27)))) false)) := rfl
theorem sm_load_10 {r : Nat} (hr : r < 4) {post : St2 → Prop} {K : zq_K} (hK : zq_H r K post) (x1 f0_n f0_factorCount f0_invariantCount : Nat) : ∀ (n x3 x4 am21 am22 am23 am24 am25 am26 am27 : Nat) (am21f : Nat → Int32), zq_AE r am21f am21 → ev_load_10 K x1 f0_n f0_factorCount f0_invariantCount n x3 x4 am21 am22 am23 am24 am25 am26 am27 = true → wX_load_10 post (nI x1) (nI f0_n) (nI f0_factorCount) (nI f0_invariantCount) n (nI x3) (nI x4) am21f (zq_ar am22) (zq_ar am23) (zq_ar am24) (zq_ar am25) (zq_ar am26) (zq_ar am27) := by
  intro n
  induction n with
  | zero =>
    intro x3 x4 am21 am22 am23 am24 am25 am26 am27 am21f am21h h
    exact absurd h Bool.false_ne_true
  | succ n ih =>
    intro x3 x4 am21 am22 am23 am24 am25 am26 am27 am21f am21h h
    rw [eq_load_10] at h
    refine zf_if (zc_le (Eq.refl (nI x3)) (show (0 : Int32) = nI 0 from rfl)) h (fun h => ?_) (fun h => ?_)
    · exact hK _ _ _ _ _ _ _ _ _ _ _ am21h h
    · refine zf_5 ?_
      refine zf_in (zt_add (zt_mul (show (10 : Int32) = nI 10 from rfl) (Eq.refl (nI x1))) (Eq.refl (nI x4))) (by decide) h (fun h => ?_)
      refine zf_up (zt_cl (zt_add (zt_mul (show (10 : Int32) = nI 10 from rfl) (Eq.refl (nI x1))) (Eq.refl (nI x4)))) (zt_b (zt_rem (Eq.refl (nI x3)) (show (5 : Int32) = nI 5 from rfl))) h (fun am22_29 h => ?_)
      refine zf_5 ?_
      refine zf_nm (zt_div (Eq.refl (nI x3)) (show (5 : Int32) = nI 5 from rfl)) h (fun x3_31 h => ?_)
      refine zf_nm (zt_add (Eq.refl (nI x4)) (show (1 : Int32) = nI 1 from rfl)) h (fun x4_32 h => ?_)
      exact ih x3_31 x4_32 am21 am22_29 am23 am24 am25 am26 am27 am21f am21h h
noncomputable def ev_load (K : zq_K) (f0_n f0_factorCount f0_invariantCount a1 a2 a3 a4 a5 a6 a7 p0 p1 : Nat) : Bool := ev_clearPoly (fun f0_n_2 f0_factorCount_3 f0_invariantCount_4 am21_7 am22_10 am23_13 am24_16 am25_19 am26_22 am27_25 => ev_load_10 K p0 f0_n_2 f0_factorCount_3 f0_invariantCount_4 40 p1 0 am21_7 am22_10 am23_13 am24_16 am25_19 am26_22 am27_25) f0_n f0_factorCount f0_invariantCount a1 a2 a3 a4 a5 a6 a7 p0
theorem sm_load {r : Nat} (hr : r < 4) {post : St2 → Prop} {K : zq_K} {f0_n f0_factorCount f0_invariantCount a1 a2 a3 a4 a5 a6 a7 p0 p1 : Nat} {a1f : Nat → Int32} {v_p0 v_p1 : Int32} (a1h : zq_AE r a1f a1) (e_p0 : v_p0 = nI p0) (e_p1 : v_p1 = nI p1) (h : ev_load K f0_n f0_factorCount f0_invariantCount a1 a2 a3 a4 a5 a6 a7 p0 p1 = true) (hK : zq_H r K post) : wpX_load post ((nI f0_n), (nI f0_factorCount), (nI f0_invariantCount), a1f, (zq_ar a2), (zq_ar a3), (zq_ar a4), (zq_ar a5), (zq_ar a6), (zq_ar a7)) v_p0 v_p1 := by
  subst e_p0 e_p1
  unfold ev_load at h
  unfold wpX_load
  dsimp only
  refine sm_clearPoly hr a1h (Eq.refl (nI p0)) h (fun f0_n_2 f0_factorCount_3 f0_invariantCount_4 am21_7 am22_10 am23_13 am24_16 am25_19 am26_22 am27_25 am21_7f am21_7h h => ?_)
  refine ⟨40, ?_⟩
  exact sm_load_10 hr  hK p0 f0_n_2 f0_factorCount_3 f0_invariantCount_4 40 p1 0 am21_7 am22_10 am23_13 am24_16 am25_19 am26_22 am27_25 am21_7f am21_7h h
noncomputable def ev_degreeOf_3 (K : Nat → Bool) (x1 f0_n f0_factorCount f0_invariantCount a1 a2 a3 a4 a5 a6 a7 : Nat) (n : Nat) : Nat → Bool := @Nat.rec (fun _ => Nat → Bool) (fun _ => false) (fun _ ih => fun x2 => zq_if (zq_lt x2 0) (K x2) (zq_if (Nat.ble (Nat.succ (zq_add (zq_mul 10 x1) x2)) 130) (zq_if (zq_eq (zq_rd a2 (zq_cl (zq_add (zq_mul 10 x1) x2))) 0) (zq_fo (zq_add x2 4294967295) (fun x2_4 => ih x2_4)) (K x2)) false)) n
theorem eq_degreeOf_3 (K : Nat → Bool) (n x1 f0_n f0_factorCount f0_invariantCount a1 a2 a3 a4 a5 a6 a7 x2 : Nat) : ev_degreeOf_3 K x1 f0_n f0_factorCount f0_invariantCount a1 a2 a3 a4 a5 a6 a7 (n + 1) x2 = (zq_if (zq_lt x2 0) (K x2) (zq_if (Nat.ble (Nat.succ (zq_add (zq_mul 10 x1) x2)) 130) (zq_if (zq_eq (zq_rd a2 (zq_cl (zq_add (zq_mul 10 x1) x2))) 0) (zq_fo (zq_add x2 4294967295) (fun x2_4 => (ev_degreeOf_3 K x1 f0_n f0_factorCount f0_invariantCount a1 a2 a3 a4 a5 a6 a7 n) x2_4)) (K x2)) false)) := rfl
theorem sm_degreeOf_3 {r : Nat} (hr : r < 4) {post : Int32 → Prop} {K : Nat → Bool} (hK : zq_HV K post) (x1 f0_n f0_factorCount f0_invariantCount a1 a2 a3 a4 a5 a6 a7 : Nat) (a1f : Nat → Int32) (a1h : zq_AE r a1f a1) : ∀ (n x2 : Nat), ev_degreeOf_3 K x1 f0_n f0_factorCount f0_invariantCount a1 a2 a3 a4 a5 a6 a7 n x2 = true → wX_degreeOf_3 post (nI x1) (nI f0_n) (nI f0_factorCount) (nI f0_invariantCount) a1f (zq_ar a2) (zq_ar a3) (zq_ar a4) (zq_ar a5) (zq_ar a6) (zq_ar a7) n (nI x2) := by
  intro n
  induction n with
  | zero =>
    intro x2 h
    exact absurd h Bool.false_ne_true
  | succ n ih =>
    intro x2 h
    rw [eq_degreeOf_3] at h
    refine zf_if (zc_lt (Eq.refl (nI x2)) (show (0 : Int32) = nI 0 from rfl)) h (fun h => ?_) (fun h => ?_)
    · exact hK _ _ (Eq.refl (nI x2)) h
    · refine zf_in (zt_add (zt_mul (show (10 : Int32) = nI 10 from rfl) (Eq.refl (nI x1))) (Eq.refl (nI x2))) (by decide) h (fun h => ?_)
      refine zf_if (zc_eq (zt_rd (zt_cl (zt_add (zt_mul (show (10 : Int32) = nI 10 from rfl) (Eq.refl (nI x1))) (Eq.refl (nI x2))))) (show (0 : Int32) = nI 0 from rfl)) h (fun h => ?_) (fun h => ?_)
      · refine zf_nm (zt_add (Eq.refl (nI x2)) (show (-1 : Int32) = nI 4294967295 from rfl)) h (fun x2_4 h => ?_)
        exact ih x2_4 h
      · exact hK _ _ (Eq.refl (nI x2)) h
noncomputable def ev_degreeOf (K : Nat → Bool) (f0_n f0_factorCount f0_invariantCount a1 a2 a3 a4 a5 a6 a7 p0 : Nat) : Bool := ev_degreeOf_3 K p0 f0_n f0_factorCount f0_invariantCount a1 a2 a3 a4 a5 a6 a7 40 9
theorem sm_degreeOf {r : Nat} (hr : r < 4) {post : Int32 → Prop} {K : Nat → Bool} {f0_n f0_factorCount f0_invariantCount a1 a2 a3 a4 a5 a6 a7 p0 : Nat} {a1f : Nat → Int32} {v_p0 : Int32} (a1h : zq_AE r a1f a1) (e_p0 : v_p0 = nI p0) (h : ev_degreeOf K f0_n f0_factorCount f0_invariantCount a1 a2 a3 a4 a5 a6 a7 p0 = true) (hK : zq_HV K post) : wpX_degreeOf post ((nI f0_n), (nI f0_factorCount), (nI f0_invariantCount), a1f, (zq_ar a2), (zq_ar a3), (zq_ar a4), (zq_ar a5), (zq_ar a6), (zq_ar a7)) v_p0 := by
  subst e_p0
  unfold ev_degreeOf at h
  unfold wpX_degreeOf
  dsimp only
  refine ⟨40, ?_⟩
  exact sm_degreeOf_3 hr  hK p0 f0_n f0_factorCount f0_invariantCount a1 a2 a3 a4 a5 a6 a7 a1f a1h 40 9 h
noncomputable def ev_addFactor (K : zq_K) (f0_n f0_factorCount f0_invariantCount a1 a2 a3 a4 a5 a6 a7 p0 p1 : Nat) : Bool := zq_if (Nat.ble (Nat.succ f0_factorCount) 4) (zq_up a3 (zq_cl f0_factorCount) (zq_s p0) (fun a3_2 => zq_if (Nat.ble (Nat.succ f0_factorCount) 4) (zq_up a4 (zq_cl f0_factorCount) (zq_b p1) (fun a4_4 => zq_fo (zq_add f0_factorCount 1) (fun f_5 => K f0_n f_5 f0_invariantCount a1 a2 a3_2 a4_4 a5 a6 a7))) false)) false
theorem sm_addFactor {r : Nat} (hr : r < 4) {post : St2 → Prop} {K : zq_K} {f0_n f0_factorCount f0_invariantCount a1 a2 a3 a4 a5 a6 a7 p0 p1 : Nat} {a1f : Nat → Int32} {v_p0 v_p1 : Int32} (a1h : zq_AE r a1f a1) (e_p0 : v_p0 = nI p0) (e_p1 : v_p1 = nI p1) (h : ev_addFactor K f0_n f0_factorCount f0_invariantCount a1 a2 a3 a4 a5 a6 a7 p0 p1 = true) (hK : zq_H r K post) : wpX_addFactor post ((nI f0_n), (nI f0_factorCount), (nI f0_invariantCount), a1f, (zq_ar a2), (zq_ar a3), (zq_ar a4), (zq_ar a5), (zq_ar a6), (zq_ar a7)) v_p0 v_p1 := by
  subst e_p0 e_p1
  unfold ev_addFactor at h
  unfold wpX_addFactor
  dsimp only
  refine zf_in (Eq.refl (nI f0_factorCount)) (by decide) h (fun h => ?_)
  refine zf_up (zt_cl (Eq.refl (nI f0_factorCount))) (zt_s (Eq.refl (nI p0))) h (fun a3_2 h => ?_)
  refine zf_in (Eq.refl (nI f0_factorCount)) (by decide) h (fun h => ?_)
  refine zf_up (zt_cl (Eq.refl (nI f0_factorCount))) (zt_b (Eq.refl (nI p1))) h (fun a4_4 h => ?_)
  refine zf_nm (zt_add (Eq.refl (nI f0_factorCount)) (show (1 : Int32) = nI 1 from rfl)) h (fun f_5 h => ?_)
  exact hK _ _ _ _ _ _ _ _ _ _ _ a1h h
noncomputable def ev_copyPoly_2 (K : zq_K) (x1 x2 f0_n f0_factorCount f0_invariantCount : Nat) (n : Nat) : Nat → Nat → Nat → Nat → Nat → Nat → Nat → Nat → Bool := @Nat.rec (fun _ => Nat → Nat → Nat → Nat → Nat → Nat → Nat → Nat → Bool) (fun _ _ _ _ _ _ _ _ => false) (fun _ ih => fun x3 a1 a2 a3 a4 a5 a6 a7 => zq_if (zq_le 10 x3) (K f0_n f0_factorCount f0_invariantCount a1 a2 a3 a4 a5 a6 a7) (zq_if (Nat.ble (Nat.succ (zq_add (zq_mul 10 x2) x3)) 130) (zq_if (Nat.ble (Nat.succ (zq_add (zq_mul 10 x1) x3)) 130) (zq_up a2 (zq_cl (zq_add (zq_mul 10 x1) x3)) (zq_b (zq_rd a2 (zq_cl (zq_add (zq_mul 10 x2) x3)))) (fun a2_4 => zq_fo (zq_add x3 1) (fun x3_5 => ih x3_5 a1 a2_4 a3 a4 a5 a6 a7))) false) false)) n
theorem eq_copyPoly_2 (K : zq_K) (n x1 x2 f0_n f0_factorCount f0_invariantCount x3 a1 a2 a3 a4 a5 a6 a7 : Nat) : ev_copyPoly_2 K x1 x2 f0_n f0_factorCount f0_invariantCount (n + 1) x3 a1 a2 a3 a4 a5 a6 a7 = (zq_if (zq_le 10 x3) (K f0_n f0_factorCount f0_invariantCount a1 a2 a3 a4 a5 a6 a7) (zq_if (Nat.ble (Nat.succ (zq_add (zq_mul 10 x2) x3)) 130) (zq_if (Nat.ble (Nat.succ (zq_add (zq_mul 10 x1) x3)) 130) (zq_up a2 (zq_cl (zq_add (zq_mul 10 x1) x3)) (zq_b (zq_rd a2 (zq_cl (zq_add (zq_mul 10 x2) x3)))) (fun a2_4 => zq_fo (zq_add x3 1) (fun x3_5 => (ev_copyPoly_2 K x1 x2 f0_n f0_factorCount f0_invariantCount n) x3_5 a1 a2_4 a3 a4 a5 a6 a7))) false) false)) := rfl
theorem sm_copyPoly_2 {r : Nat} (hr : r < 4) {post : St2 → Prop} {K : zq_K} (hK : zq_H r K post) (x1 x2 f0_n f0_factorCount f0_invariantCount : Nat) : ∀ (n x3 a1 a2 a3 a4 a5 a6 a7 : Nat) (a1f : Nat → Int32), zq_AE r a1f a1 → ev_copyPoly_2 K x1 x2 f0_n f0_factorCount f0_invariantCount n x3 a1 a2 a3 a4 a5 a6 a7 = true → wX_copyPoly_2 post (nI x1) (nI x2) (nI f0_n) (nI f0_factorCount) (nI f0_invariantCount) n (nI x3) a1f (zq_ar a2) (zq_ar a3) (zq_ar a4) (zq_ar a5) (zq_ar a6) (zq_ar a7) := by
  intro n
  induction n with
  | zero =>
    intro x3 a1 a2 a3 a4 a5 a6 a7 a1f a1h h
    exact absurd h Bool.false_ne_true
  | succ n ih =>
    intro x3 a1 a2 a3 a4 a5 a6 a7 a1f a1h h
    rw [eq_copyPoly_2] at h
    refine zf_if (zc_le (show (10 : Int32) = nI 10 from rfl) (Eq.refl (nI x3))) h (fun h => ?_) (fun h => ?_)
    · exact hK _ _ _ _ _ _ _ _ _ _ _ a1h h
    · refine zf_in (zt_add (zt_mul (show (10 : Int32) = nI 10 from rfl) (Eq.refl (nI x2))) (Eq.refl (nI x3))) (by decide) h (fun h => ?_)
      refine zf_in (zt_add (zt_mul (show (10 : Int32) = nI 10 from rfl) (Eq.refl (nI x1))) (Eq.refl (nI x3))) (by decide) h (fun h => ?_)
      refine zf_up (zt_cl (zt_add (zt_mul (show (10 : Int32) = nI 10 from rfl) (Eq.refl (nI x1))) (Eq.refl (nI x3)))) (zt_nb (zt_rd (zt_cl (zt_add (zt_mul (show (10 : Int32) = nI 10 from rfl) (Eq.refl (nI x2))) (Eq.refl (nI x3)))))) h (fun a2_4 h => ?_)
      refine zf_nm (zt_add (Eq.refl (nI x3)) (show (1 : Int32) = nI 1 from rfl)) h (fun x3_5 h => ?_)
      exact ih x3_5 a1 a2_4 a3 a4 a5 a6 a7 a1f a1h h
noncomputable def ev_copyPoly (K : zq_K) (f0_n f0_factorCount f0_invariantCount a1 a2 a3 a4 a5 a6 a7 p0 p1 : Nat) : Bool := ev_copyPoly_2 K p0 p1 f0_n f0_factorCount f0_invariantCount 40 0 a1 a2 a3 a4 a5 a6 a7
theorem sm_copyPoly {r : Nat} (hr : r < 4) {post : St2 → Prop} {K : zq_K} {f0_n f0_factorCount f0_invariantCount a1 a2 a3 a4 a5 a6 a7 p0 p1 : Nat} {a1f : Nat → Int32} {v_p0 v_p1 : Int32} (a1h : zq_AE r a1f a1) (e_p0 : v_p0 = nI p0) (e_p1 : v_p1 = nI p1) (h : ev_copyPoly K f0_n f0_factorCount f0_invariantCount a1 a2 a3 a4 a5 a6 a7 p0 p1 = true) (hK : zq_H r K post) : wpX_copyPoly post ((nI f0_n), (nI f0_factorCount), (nI f0_invariantCount), a1f, (zq_ar a2), (zq_ar a3), (zq_ar a4), (zq_ar a5), (zq_ar a6), (zq_ar a7)) v_p0 v_p1 := by
  subst e_p0 e_p1
  unfold ev_copyPoly at h
  unfold wpX_copyPoly
  dsimp only
  refine ⟨40, ?_⟩
  exact sm_copyPoly_2 hr  hK p0 p1 f0_n f0_factorCount f0_invariantCount 40 0 a1 a2 a3 a4 a5 a6 a7 a1f a1h h
noncomputable def ev_dividePoly_61 (K : zq_K) (B_J26 : Nat → Nat → Nat → Nat → Nat → Nat → Nat → Nat → Nat → Nat → Nat → Bool) (x2 x3 x4 x5 : Nat) (n : Nat) : Nat → Nat → Nat → Nat → Nat → Nat → Nat → Nat → Nat → Nat → Nat → Bool := @Nat.rec (fun _ => Nat → Nat → Nat → Nat → Nat → Nat → Nat → Nat → Nat → Nat → Nat → Bool) (fun _ _ _ _ _ _ _ _ _ _ _ => false) (fun _ ih => fun x6 f0_n f0_factorCount f0_invariantCount am81 am82 am83 am84 am85 am86 am87 => zq_if (zq_lt x3 x6) (zq_fo (zq_add x4 4294967295) (fun x4_60 => B_J26 x4_60 f0_n f0_factorCount f0_invariantCount am81 am82 am83 am84 am85 am86 am87)) (zq_if (Nat.ble (Nat.succ (zq_add (zq_mul 10 x2) x6)) 130) (zq_fo (zq_add x4 x6) (fun q0 => zq_fo (zq_mul (zq_sub 5 x5) (zq_rd am82 (zq_cl (zq_add (zq_mul 10 x2) x6)))) (fun q1 => ev_addCoefficient (fun f0_n_63 f0_factorCount_64 f0_invariantCount_65 am911_68 am912_71 am913_74 am914_77 am915_80 am916_83 am917_86 => zq_fo (zq_add x6 1) (fun x6_87 => ih x6_87 f0_n_63 f0_factorCount_64 f0_invariantCount_65 am911_68 am912_71 am913_74 am914_77 am915_80 am916_83 am917_86)) f0_n f0_factorCount f0_invariantCount am81 am82 am83 am84 am85 am86 am87 3 q0 q1))) false)) n
theorem eq_dividePoly_61 (K : zq_K) (B_J26 : Nat → Nat → Nat → Nat → Nat → Nat → Nat → Nat → Nat → Nat → Nat → Bool) (n x2 x3 x4 x5 x6 f0_n f0_factorCount f0_invariantCount am81 am82 am83 am84 am85 am86 am87 : Nat) : ev_dividePoly_61 K B_J26 x2 x3 x4 x5 (n + 1) x6 f0_n f0_factorCount f0_invariantCount am81 am82 am83 am84 am85 am86 am87 = (zq_if (zq_lt x3 x6) (zq_fo (zq_add x4 4294967295) (fun x4_60 => B_J26 x4_60 f0_n f0_factorCount f0_invariantCount am81 am82 am83 am84 am85 am86 am87)) (zq_if (Nat.ble (Nat.succ (zq_add (zq_mul 10 x2) x6)) 130) (zq_fo (zq_add x4 x6) (fun q0 => zq_fo (zq_mul (zq_sub 5 x5) (zq_rd am82 (zq_cl (zq_add (zq_mul 10 x2) x6)))) (fun q1 => ev_addCoefficient (fun f0_n_63 f0_factorCount_64 f0_invariantCount_65 am911_68 am912_71 am913_74 am914_77 am915_80 am916_83 am917_86 => zq_fo (zq_add x6 1) (fun x6_87 => (ev_dividePoly_61 K B_J26 x2 x3 x4 x5 n) x6_87 f0_n_63 f0_factorCount_64 f0_invariantCount_65 am911_68 am912_71 am913_74 am914_77 am915_80 am916_83 am917_86)) f0_n f0_factorCount f0_invariantCount am81 am82 am83 am84 am85 am86 am87 3 q0 q1))) false)) := rfl
theorem sm_dividePoly_61 {r : Nat} (hr : r < 4) {post : St2 → Prop} {K : zq_K} {J26 : Int32 → Int32 → Int32 → Int32 → (Nat → Int32) → (Nat → Int32) → (Nat → Int32) → (Nat → Int32) → (Nat → Int32) → (Nat → Int32) → (Nat → Int32) → Prop} {B_J26 : Nat → Nat → Nat → Nat → Nat → Nat → Nat → Nat → Nat → Nat → Nat → Bool} (hK : zq_H r K post) (hJ26 : ∀ (y0 y1 y2 y3 y4 y5 y6 y7 y8 y9 y10 : Nat) (yf : Nat → Int32), zq_AE r yf y4 → B_J26 y0 y1 y2 y3 y4 y5 y6 y7 y8 y9 y10 = true → J26 (nI y0) (nI y1) (nI y2) (nI y3) yf (zq_ar y5) (zq_ar y6) (zq_ar y7) (zq_ar y8) (zq_ar y9) (zq_ar y10)) (x2 x3 x4 x5 : Nat) : ∀ (n x6 f0_n f0_factorCount f0_invariantCount am81 am82 am83 am84 am85 am86 am87 : Nat) (am81f : Nat → Int32), zq_AE r am81f am81 → ev_dividePoly_61 K B_J26 x2 x3 x4 x5 n x6 f0_n f0_factorCount f0_invariantCount am81 am82 am83 am84 am85 am86 am87 = true → wX_dividePoly_61 post J26 (nI x2) (nI x3) (nI x4) (nI x5) n (nI x6) (nI f0_n) (nI f0_factorCount) (nI f0_invariantCount) am81f (zq_ar am82) (zq_ar am83) (zq_ar am84) (zq_ar am85) (zq_ar am86) (zq_ar am87) := by
  intro n
  induction n with
  | zero =>
    intro x6 f0_n f0_factorCount f0_invariantCount am81 am82 am83 am84 am85 am86 am87 am81f am81h h
    exact absurd h Bool.false_ne_true
  | succ n ih =>
    intro x6 f0_n f0_factorCount f0_invariantCount am81 am82 am83 am84 am85 am86 am87 am81f am81h h
    rw [eq_dividePoly_61] at h
    refine zf_if (zc_lt (Eq.refl (nI x3)) (Eq.refl (nI x6))) h (fun h => ?_) (fun h => ?_)
    · refine zf_nm (zt_add (Eq.refl (nI x4)) (show (-1 : Int32) = nI 4294967295 from rfl)) h (fun x4_60 h => ?_)
      exact hJ26 x4_60 f0_n f0_factorCount f0_invariantCount am81 am82 am83 am84 am85 am86 am87 am81f am81h h
    · refine zf_in (zt_add (zt_mul (show (10 : Int32) = nI 10 from rfl) (Eq.refl (nI x2))) (Eq.refl (nI x6))) (by decide) h (fun h => ?_)
      have h := zq_fo_t h
      have h := zq_fo_t h
      refine sm_addCoefficient hr am81h (show (3 : Int32) = nI 3 from rfl) (zt_add (Eq.refl (nI x4)) (Eq.refl (nI x6))) (zt_mul (zt_sub (show (5 : Int32) = nI 5 from rfl) (Eq.refl (nI x5))) (zt_rd (zt_cl (zt_add (zt_mul (show (10 : Int32) = nI 10 from rfl) (Eq.refl (nI x2))) (Eq.refl (nI x6)))))) h (fun f0_n_63 f0_factorCount_64 f0_invariantCount_65 am911_68 am912_71 am913_74 am914_77 am915_80 am916_83 am917_86 am911_68f am911_68h h => ?_)
      refine zf_nm (zt_add (Eq.refl (nI x6)) (show (1 : Int32) = nI 1 from rfl)) h (fun x6_87 h => ?_)
      exact ih x6_87 f0_n_63 f0_factorCount_64 f0_invariantCount_65 am911_68 am912_71 am913_74 am914_77 am915_80 am916_83 am917_86 am911_68f am911_68h h
noncomputable def ev_dividePoly_26 (K : zq_K) (x2 x3 : Nat) (n : Nat) : Nat → Nat → Nat → Nat → Nat → Nat → Nat → Nat → Nat → Nat → Nat → Bool := @Nat.rec (fun _ => Nat → Nat → Nat → Nat → Nat → Nat → Nat → Nat → Nat → Nat → Nat → Bool) (fun _ _ _ _ _ _ _ _ _ _ _ => false) (fun _ ih => fun x4 f0_n f0_factorCount f0_invariantCount am81 am82 am83 am84 am85 am86 am87 => zq_if (zq_lt x4 0) (K f0_n f0_factorCount f0_invariantCount am81 am82 am83 am84 am85 am86 am87) (zq_if (Nat.ble (Nat.succ (zq_add (zq_add 30 x4) x3)) 130) (zq_fo (zq_rd am82 (zq_cl (zq_add (zq_add 30 x4) x3))) (fun x5_56 => zq_if (Nat.ble (Nat.succ (zq_add 20 x4)) 130) (zq_up am82 (zq_cl (zq_add 20 x4)) (zq_b x5_56) (fun am82_58 => ev_dividePoly_61 K ih x2 x3 x4 x5_56 40 0 f0_n f0_factorCount f0_invariantCount am81 am82_58 am83 am84 am85 am86 am87)) false)) false)) n
theorem eq_dividePoly_26 (K : zq_K) (n x2 x3 x4 f0_n f0_factorCount f0_invariantCount am81 am82 am83 am84 am85 am86 am87 : Nat) : ev_dividePoly_26 K x2 x3 (n + 1) x4 f0_n f0_factorCount f0_invariantCount am81 am82 am83 am84 am85 am86 am87 = (zq_if (zq_lt x4 0) (K f0_n f0_factorCount f0_invariantCount am81 am82 am83 am84 am85 am86 am87) (zq_if (Nat.ble (Nat.succ (zq_add (zq_add 30 x4) x3)) 130) (zq_fo (zq_rd am82 (zq_cl (zq_add (zq_add 30 x4) x3))) (fun x5_56 => zq_if (Nat.ble (Nat.succ (zq_add 20 x4)) 130) (zq_up am82 (zq_cl (zq_add 20 x4)) (zq_b x5_56) (fun am82_58 => ev_dividePoly_61 K (ev_dividePoly_26 K x2 x3 n) x2 x3 x4 x5_56 40 0 f0_n f0_factorCount f0_invariantCount am81 am82_58 am83 am84 am85 am86 am87)) false)) false)) := rfl
theorem sm_dividePoly_26 {r : Nat} (hr : r < 4) {post : St2 → Prop} {K : zq_K} (hK : zq_H r K post) (x2 x3 : Nat) : ∀ (n x4 f0_n f0_factorCount f0_invariantCount am81 am82 am83 am84 am85 am86 am87 : Nat) (am81f : Nat → Int32), zq_AE r am81f am81 → ev_dividePoly_26 K x2 x3 n x4 f0_n f0_factorCount f0_invariantCount am81 am82 am83 am84 am85 am86 am87 = true → wX_dividePoly_26 post (nI x2) (nI x3) n (nI x4) (nI f0_n) (nI f0_factorCount) (nI f0_invariantCount) am81f (zq_ar am82) (zq_ar am83) (zq_ar am84) (zq_ar am85) (zq_ar am86) (zq_ar am87) := by
  intro n
  induction n with
  | zero =>
    intro x4 f0_n f0_factorCount f0_invariantCount am81 am82 am83 am84 am85 am86 am87 am81f am81h h
    exact absurd h Bool.false_ne_true
  | succ n ih =>
    intro x4 f0_n f0_factorCount f0_invariantCount am81 am82 am83 am84 am85 am86 am87 am81f am81h h
    rw [eq_dividePoly_26] at h
    refine zf_if (zc_lt (Eq.refl (nI x4)) (show (0 : Int32) = nI 0 from rfl)) h (fun h => ?_) (fun h => ?_)
    · exact hK _ _ _ _ _ _ _ _ _ _ _ am81h h
    · refine zf_in (zt_add (zt_add (show (30 : Int32) = nI 30 from rfl) (Eq.refl (nI x4))) (Eq.refl (nI x3))) (by decide) h (fun h => ?_)
      refine zf_nm (zt_rd (zt_cl (zt_add (zt_add (show (30 : Int32) = nI 30 from rfl) (Eq.refl (nI x4))) (Eq.refl (nI x3))))) h (fun x5_56 h => ?_)
      refine zf_in (zt_add (show (20 : Int32) = nI 20 from rfl) (Eq.refl (nI x4))) (by decide) h (fun h => ?_)
      refine zf_up (zt_cl (zt_add (show (20 : Int32) = nI 20 from rfl) (Eq.refl (nI x4)))) (zt_b (Eq.refl (nI x5_56))) h (fun am82_58 h => ?_)
      refine ⟨40, ?_⟩
      exact sm_dividePoly_61 hr (J26 := wX_dividePoly_26 post (nI x2) (nI x3) n) (B_J26 := ev_dividePoly_26 K x2 x3 n) hK ih x2 x3 x4 x5_56 40 0 f0_n f0_factorCount f0_invariantCount am81 am82_58 am83 am84 am85 am86 am87 am81f am81h h
noncomputable def ev_dividePoly (K : zq_K) (f0_n f0_factorCount f0_invariantCount a1 a2 a3 a4 a5 a6 a7 p0 p1 : Nat) : Bool := ev_copyPoly (fun f0_n_2 f0_factorCount_3 f0_invariantCount_4 am31_7 am32_10 am33_13 am34_16 am35_19 am36_22 am37_25 => ev_clearPoly (fun f0_n_27 f0_factorCount_28 f0_invariantCount_29 am81_32 am82_35 am83_38 am84_41 am85_44 am86_47 am87_50 => ev_degreeOf (fun r_51 => ev_degreeOf (fun r_52 => zq_fo (zq_sub r_52 r_51) (fun x4_53 => ev_dividePoly_26 K p1 r_51 40 x4_53 f0_n_27 f0_factorCount_28 f0_invariantCount_29 am81_32 am82_35 am83_38 am84_41 am85_44 am86_47 am87_50)) f0_n_27 f0_factorCount_28 f0_invariantCount_29 am81_32 am82_35 am83_38 am84_41 am85_44 am86_47 am87_50 3) f0_n_27 f0_factorCount_28 f0_invariantCount_29 am81_32 am82_35 am83_38 am84_41 am85_44 am86_47 am87_50 p1) f0_n_2 f0_factorCount_3 f0_invariantCount_4 am31_7 am32_10 am33_13 am34_16 am35_19 am36_22 am37_25 2) f0_n f0_factorCount f0_invariantCount a1 a2 a3 a4 a5 a6 a7 3 p0
theorem sm_dividePoly {r : Nat} (hr : r < 4) {post : St2 → Prop} {K : zq_K} {f0_n f0_factorCount f0_invariantCount a1 a2 a3 a4 a5 a6 a7 p0 p1 : Nat} {a1f : Nat → Int32} {v_p0 v_p1 : Int32} (a1h : zq_AE r a1f a1) (e_p0 : v_p0 = nI p0) (e_p1 : v_p1 = nI p1) (h : ev_dividePoly K f0_n f0_factorCount f0_invariantCount a1 a2 a3 a4 a5 a6 a7 p0 p1 = true) (hK : zq_H r K post) : wpX_dividePoly post ((nI f0_n), (nI f0_factorCount), (nI f0_invariantCount), a1f, (zq_ar a2), (zq_ar a3), (zq_ar a4), (zq_ar a5), (zq_ar a6), (zq_ar a7)) v_p0 v_p1 := by
  subst e_p0 e_p1
  unfold ev_dividePoly at h
  unfold wpX_dividePoly
  dsimp only
  refine sm_copyPoly hr a1h (show (3 : Int32) = nI 3 from rfl) (Eq.refl (nI p0)) h (fun f0_n_2 f0_factorCount_3 f0_invariantCount_4 am31_7 am32_10 am33_13 am34_16 am35_19 am36_22 am37_25 am31_7f am31_7h h => ?_)
  refine sm_clearPoly hr am31_7h (show (2 : Int32) = nI 2 from rfl) h (fun f0_n_27 f0_factorCount_28 f0_invariantCount_29 am81_32 am82_35 am83_38 am84_41 am85_44 am86_47 am87_50 am81_32f am81_32h h => ?_)
  refine sm_degreeOf hr am81_32h (Eq.refl (nI p1)) h (fun q_v r_51 q_e h => ?_)
  subst q_e
  refine sm_degreeOf hr am81_32h (show (3 : Int32) = nI 3 from rfl) h (fun q_v r_52 q_e h => ?_)
  subst q_e
  refine zf_nm (zt_sub (Eq.refl (nI r_52)) (Eq.refl (nI r_51))) h (fun x4_53 h => ?_)
  refine ⟨40, ?_⟩
  exact sm_dividePoly_26 hr  hK p1 r_51 40 x4_53 f0_n_27 f0_factorCount_28 f0_invariantCount_29 am81_32 am82_35 am83_38 am84_41 am85_44 am86_47 am87_50 am81_32f am81_32h h
end
section
noncomputable def ev_tryFactor_48 (K : zq_K) (B_J24 : Nat → Nat → Nat → Nat → Nat → Nat → Nat → Nat → Nat → Nat → Nat → Nat → Bool) (x1 x2 x3 z0 f0_n f0_factorCount f0_invariantCount am321 am322 am323 am324 am325 am326 am327 : Nat) : Bool := zq_if (zq_eq z0 0) (B_J24 x3 z0 f0_n f0_factorCount f0_invariantCount am321 am322 am323 am324 am325 am326 am327) (ev_copyPoly (fun f0_n_84 f0_factorCount_85 f0_invariantCount_86 am611_89 am612_92 am613_95 am614_98 am615_101 am616_104 am617_107 => ev_degreeOf (fun r_108 => zq_if (zq_lt r_108 x2) (B_J24 1 0 f0_n_84 f0_factorCount_85 f0_invariantCount_86 am611_89 am612_92 am613_95 am614_98 am615_101 am616_104 am617_107) (B_J24 1 1 f0_n_84 f0_factorCount_85 f0_invariantCount_86 am611_89 am612_92 am613_95 am614_98 am615_101 am616_104 am617_107)) f0_n_84 f0_factorCount_85 f0_invariantCount_86 am611_89 am612_92 am613_95 am614_98 am615_101 am616_104 am617_107 0) f0_n f0_factorCount f0_invariantCount am321 am322 am323 am324 am325 am326 am327 0 2)
theorem sm_tryFactor_48 {r : Nat} (hr : r < 4) {post : St2 → Prop} {K : zq_K} {J24 : Int32 → Int32 → Int32 → Int32 → Int32 → (Nat → Int32) → (Nat → Int32) → (Nat → Int32) → (Nat → Int32) → (Nat → Int32) → (Nat → Int32) → (Nat → Int32) → Prop} {B_J24 : Nat → Nat → Nat → Nat → Nat → Nat → Nat → Nat → Nat → Nat → Nat → Nat → Bool} (hK : zq_H r K post) (hJ24 : ∀ (y0 y1 y2 y3 y4 y5 y6 y7 y8 y9 y10 y11 : Nat) (yf : Nat → Int32), zq_AE r yf y5 → B_J24 y0 y1 y2 y3 y4 y5 y6 y7 y8 y9 y10 y11 = true → J24 (nI y0) (nI y1) (nI y2) (nI y3) (nI y4) yf (zq_ar y6) (zq_ar y7) (zq_ar y8) (zq_ar y9) (zq_ar y10) (zq_ar y11)) (x1 x2 x3 z0 f0_n f0_factorCount f0_invariantCount am321 am322 am323 am324 am325 am326 am327 : Nat) (am321f : Nat → Int32) (am321h : zq_AE r am321f am321) (h : ev_tryFactor_48 K B_J24 x1 x2 x3 z0 f0_n f0_factorCount f0_invariantCount am321 am322 am323 am324 am325 am326 am327 = true) : wX_tryFactor_48 post J24 (nI x1) (nI x2) (nI x3) (nI z0) (nI f0_n) (nI f0_factorCount) (nI f0_invariantCount) am321f (zq_ar am322) (zq_ar am323) (zq_ar am324) (zq_ar am325) (zq_ar am326) (zq_ar am327) := by
  unfold ev_tryFactor_48 at h
  unfold wX_tryFactor_48
  refine zf_if (zc_eq (Eq.refl (nI z0)) (show (0 : Int32) = nI 0 from rfl)) h (fun h => ?_) (fun h => ?_)
  · exact hJ24 x3 z0 f0_n f0_factorCount f0_invariantCount am321 am322 am323 am324 am325 am326 am327 am321f am321h h
  · refine sm_copyPoly hr am321h (show (0 : Int32) = nI 0 from rfl) (show (2 : Int32) = nI 2 from rfl) h (fun f0_n_84 f0_factorCount_85 f0_invariantCount_86 am611_89 am612_92 am613_95 am614_98 am615_101 am616_104 am617_107 am611_89f am611_89h h => ?_)
    refine sm_degreeOf hr am611_89h (show (0 : Int32) = nI 0 from rfl) h (fun q_v r_108 q_e h => ?_)
    subst q_e
    refine zf_if (zc_lt (Eq.refl (nI r_108)) (Eq.refl (nI x2))) h (fun h => ?_) (fun h => ?_)
    · exact hJ24 1 0 f0_n_84 f0_factorCount_85 f0_invariantCount_86 am611_89 am612_92 am613_95 am614_98 am615_101 am616_104 am617_107 am611_89f am611_89h h
    · exact hJ24 1 1 f0_n_84 f0_factorCount_85 f0_invariantCount_86 am611_89 am612_92 am613_95 am614_98 am615_101 am616_104 am617_107 am611_89f am611_89h h
noncomputable def ev_tryFactor_24 (K : zq_K) (x1 x2 : Nat) (n : Nat) : Nat → Nat → Nat → Nat → Nat → Nat → Nat → Nat → Nat → Nat → Nat → Nat → Bool := @Nat.rec (fun _ => Nat → Nat → Nat → Nat → Nat → Nat → Nat → Nat → Nat → Nat → Nat → Nat → Bool) (fun _ _ _ _ _ _ _ _ _ _ _ _ => false) (fun _ ih => fun x3 x4 f0_n f0_factorCount f0_invariantCount am31 am32 am33 am34 am35 am36 am37 => zq_if (zq_eq x4 0) (zq_if (zq_eq x3 0) (K f0_n f0_factorCount f0_invariantCount am31 am32 am33 am34 am35 am36 am37) (ev_addFactor (fun f0_n_31 f0_factorCount_32 f0_invariantCount_33 am921_36 am922_39 am923_42 am924_45 am925_48 am926_51 am927_54 => K f0_n_31 f0_factorCount_32 f0_invariantCount_33 am921_36 am922_39 am923_42 am924_45 am925_48 am926_51 am927_54) f0_n f0_factorCount f0_invariantCount am31 am32 am33 am34 am35 am36 am37 x1 x2)) (ev_dividePoly (fun f0_n_56 f0_factorCount_57 f0_invariantCount_58 am321_61 am322_64 am323_67 am324_70 am325_73 am326_76 am327_79 => ev_degreeOf (fun r_80 => zq_if (zq_le 0 r_80) (ev_tryFactor_48 K ih x1 x2 x3 0 f0_n_56 f0_factorCount_57 f0_invariantCount_58 am321_61 am322_64 am323_67 am324_70 am325_73 am326_76 am327_79) (ev_tryFactor_48 K ih x1 x2 x3 1 f0_n_56 f0_factorCount_57 f0_invariantCount_58 am321_61 am322_64 am323_67 am324_70 am325_73 am326_76 am327_79)) f0_n_56 f0_factorCount_57 f0_invariantCount_58 am321_61 am322_64 am323_67 am324_70 am325_73 am326_76 am327_79 3) f0_n f0_factorCount f0_invariantCount am31 am32 am33 am34 am35 am36 am37 0 1)) n
theorem eq_tryFactor_24 (K : zq_K) (n x1 x2 x3 x4 f0_n f0_factorCount f0_invariantCount am31 am32 am33 am34 am35 am36 am37 : Nat) : ev_tryFactor_24 K x1 x2 (n + 1) x3 x4 f0_n f0_factorCount f0_invariantCount am31 am32 am33 am34 am35 am36 am37 = (zq_if (zq_eq x4 0) (zq_if (zq_eq x3 0) (K f0_n f0_factorCount f0_invariantCount am31 am32 am33 am34 am35 am36 am37) (ev_addFactor (fun f0_n_31 f0_factorCount_32 f0_invariantCount_33 am921_36 am922_39 am923_42 am924_45 am925_48 am926_51 am927_54 => K f0_n_31 f0_factorCount_32 f0_invariantCount_33 am921_36 am922_39 am923_42 am924_45 am925_48 am926_51 am927_54) f0_n f0_factorCount f0_invariantCount am31 am32 am33 am34 am35 am36 am37 x1 x2)) (ev_dividePoly (fun f0_n_56 f0_factorCount_57 f0_invariantCount_58 am321_61 am322_64 am323_67 am324_70 am325_73 am326_76 am327_79 => ev_degreeOf (fun r_80 => zq_if (zq_le 0 r_80) (ev_tryFactor_48 K (ev_tryFactor_24 K x1 x2 n) x1 x2 x3 0 f0_n_56 f0_factorCount_57 f0_invariantCount_58 am321_61 am322_64 am323_67 am324_70 am325_73 am326_76 am327_79) (ev_tryFactor_48 K (ev_tryFactor_24 K x1 x2 n) x1 x2 x3 1 f0_n_56 f0_factorCount_57 f0_invariantCount_58 am321_61 am322_64 am323_67 am324_70 am325_73 am326_76 am327_79)) f0_n_56 f0_factorCount_57 f0_invariantCount_58 am321_61 am322_64 am323_67 am324_70 am325_73 am326_76 am327_79 3) f0_n f0_factorCount f0_invariantCount am31 am32 am33 am34 am35 am36 am37 0 1)) := rfl
theorem sm_tryFactor_24 {r : Nat} (hr : r < 4) {post : St2 → Prop} {K : zq_K} (hK : zq_H r K post) (x1 x2 : Nat) : ∀ (n x3 x4 f0_n f0_factorCount f0_invariantCount am31 am32 am33 am34 am35 am36 am37 : Nat) (am31f : Nat → Int32), zq_AE r am31f am31 → ev_tryFactor_24 K x1 x2 n x3 x4 f0_n f0_factorCount f0_invariantCount am31 am32 am33 am34 am35 am36 am37 = true → wX_tryFactor_24 post (nI x1) (nI x2) n (nI x3) (nI x4) (nI f0_n) (nI f0_factorCount) (nI f0_invariantCount) am31f (zq_ar am32) (zq_ar am33) (zq_ar am34) (zq_ar am35) (zq_ar am36) (zq_ar am37) := by
  intro n
  induction n with
  | zero =>
    intro x3 x4 f0_n f0_factorCount f0_invariantCount am31 am32 am33 am34 am35 am36 am37 am31f am31h h
    exact absurd h Bool.false_ne_true
  | succ n ih =>
    intro x3 x4 f0_n f0_factorCount f0_invariantCount am31 am32 am33 am34 am35 am36 am37 am31f am31h h
    rw [eq_tryFactor_24] at h
    refine zf_if (zc_eq (Eq.refl (nI x4)) (show (0 : Int32) = nI 0 from rfl)) h (fun h => ?_) (fun h => ?_)
    · refine zf_if (zc_eq (Eq.refl (nI x3)) (show (0 : Int32) = nI 0 from rfl)) h (fun h => ?_) (fun h => ?_)
      · exact hK _ _ _ _ _ _ _ _ _ _ _ am31h h
      · refine sm_addFactor hr am31h (Eq.refl (nI x1)) (Eq.refl (nI x2)) h (fun f0_n_31 f0_factorCount_32 f0_invariantCount_33 am921_36 am922_39 am923_42 am924_45 am925_48 am926_51 am927_54 am921_36f am921_36h h => ?_)
        exact hK _ _ _ _ _ _ _ _ _ _ _ am921_36h h
    · refine sm_dividePoly hr am31h (show (0 : Int32) = nI 0 from rfl) (show (1 : Int32) = nI 1 from rfl) h (fun f0_n_56 f0_factorCount_57 f0_invariantCount_58 am321_61 am322_64 am323_67 am324_70 am325_73 am326_76 am327_79 am321_61f am321_61h h => ?_)
      refine sm_degreeOf hr am321_61h (show (3 : Int32) = nI 3 from rfl) h (fun q_v r_80 q_e h => ?_)
      subst q_e
      refine zf_if (zc_le (show (0 : Int32) = nI 0 from rfl) (Eq.refl (nI r_80))) h (fun h => ?_) (fun h => ?_)
      · exact sm_tryFactor_48 hr (J24 := wX_tryFactor_24 post (nI x1) (nI x2) n) (B_J24 := ev_tryFactor_24 K x1 x2 n) hK ih x1 x2 x3 0 f0_n_56 f0_factorCount_57 f0_invariantCount_58 am321_61 am322_64 am323_67 am324_70 am325_73 am326_76 am327_79 am321_61f am321_61h h
      · exact sm_tryFactor_48 hr (J24 := wX_tryFactor_24 post (nI x1) (nI x2) n) (B_J24 := ev_tryFactor_24 K x1 x2 n) hK ih x1 x2 x3 1 f0_n_56 f0_factorCount_57 f0_invariantCount_58 am321_61 am322_64 am323_67 am324_70 am325_73 am326_76 am327_79 am321_61f am321_61h h
noncomputable def ev_tryFactor (K : zq_K) (f0_n f0_factorCount f0_invariantCount a1 a2 a3 a4 a5 a6 a7 p0 p1 : Nat) : Bool := ev_load (fun f0_n_2 f0_factorCount_3 f0_invariantCount_4 am31_7 am32_10 am33_13 am34_16 am35_19 am36_22 am37_25 => ev_degreeOf (fun r_26 => zq_if (zq_lt r_26 p1) (ev_tryFactor_24 K p0 p1 40 0 0 f0_n_2 f0_factorCount_3 f0_invariantCount_4 am31_7 am32_10 am33_13 am34_16 am35_19 am36_22 am37_25) (ev_tryFactor_24 K p0 p1 40 0 1 f0_n_2 f0_factorCount_3 f0_invariantCount_4 am31_7 am32_10 am33_13 am34_16 am35_19 am36_22 am37_25)) f0_n_2 f0_factorCount_3 f0_invariantCount_4 am31_7 am32_10 am33_13 am34_16 am35_19 am36_22 am37_25 0) f0_n f0_factorCount f0_invariantCount a1 a2 a3 a4 a5 a6 a7 1 p0
theorem sm_tryFactor {r : Nat} (hr : r < 4) {post : St2 → Prop} {K : zq_K} {f0_n f0_factorCount f0_invariantCount a1 a2 a3 a4 a5 a6 a7 p0 p1 : Nat} {a1f : Nat → Int32} {v_p0 v_p1 : Int32} (a1h : zq_AE r a1f a1) (e_p0 : v_p0 = nI p0) (e_p1 : v_p1 = nI p1) (h : ev_tryFactor K f0_n f0_factorCount f0_invariantCount a1 a2 a3 a4 a5 a6 a7 p0 p1 = true) (hK : zq_H r K post) : wpX_tryFactor post ((nI f0_n), (nI f0_factorCount), (nI f0_invariantCount), a1f, (zq_ar a2), (zq_ar a3), (zq_ar a4), (zq_ar a5), (zq_ar a6), (zq_ar a7)) v_p0 v_p1 := by
  subst e_p0 e_p1
  unfold ev_tryFactor at h
  unfold wpX_tryFactor
  dsimp only
  refine sm_load hr a1h (show (1 : Int32) = nI 1 from rfl) (Eq.refl (nI p0)) h (fun f0_n_2 f0_factorCount_3 f0_invariantCount_4 am31_7 am32_10 am33_13 am34_16 am35_19 am36_22 am37_25 am31_7f am31_7h h => ?_)
  refine sm_degreeOf hr am31_7h (show (0 : Int32) = nI 0 from rfl) h (fun q_v r_26 q_e h => ?_)
  subst q_e
  refine zf_if (zc_lt (Eq.refl (nI r_26)) (Eq.refl (nI p1))) h (fun h => ?_) (fun h => ?_)
  · refine ⟨40, ?_⟩
    exact sm_tryFactor_24 hr  hK p0 p1 40 0 0 f0_n_2 f0_factorCount_3 f0_invariantCount_4 am31_7 am32_10 am33_13 am34_16 am35_19 am36_22 am37_25 am31_7f am31_7h h
  · refine ⟨40, ?_⟩
    exact sm_tryFactor_24 hr  hK p0 p1 40 0 1 f0_n_2 f0_factorCount_3 f0_invariantCount_4 am31_7 am32_10 am33_13 am34_16 am35_19 am36_22 am37_25 am31_7f am31_7h h
noncomputable def ev_findFactors_28 (K : zq_K) (n : Nat) : Nat → Nat → Nat → Nat → Nat → Nat → Nat → Nat → Nat → Nat → Nat → Bool := @Nat.rec (fun _ => Nat → Nat → Nat → Nat → Nat → Nat → Nat → Nat → Nat → Nat → Nat → Bool) (fun _ _ _ _ _ _ _ _ _ _ _ => false) (fun _ ih => fun x1 f0_n f0_factorCount f0_invariantCount a1 a2 a3 a4 a5 a6 a7 => zq_if (zq_le 50 x1) (ev_degreeOf (fun r_3 => zq_if (zq_le r_3 0) (K f0_n f0_factorCount f0_invariantCount a1 a2 a3 a4 a5 a6 a7) (ev_numberOf (fun r_5 => ev_addFactor (fun f0_n_7 f0_factorCount_8 f0_invariantCount_9 am651_12 am652_15 am653_18 am654_21 am655_24 am656_27 am657_30 => K f0_n_7 f0_factorCount_8 f0_invariantCount_9 am651_12 am652_15 am653_18 am654_21 am655_24 am656_27 am657_30) f0_n f0_factorCount f0_invariantCount a1 a2 a3 a4 a5 a6 a7 r_5 r_3) f0_n f0_factorCount f0_invariantCount a1 a2 a3 a4 a5 a6 a7 0)) f0_n f0_factorCount f0_invariantCount a1 a2 a3 a4 a5 a6 a7 0) (ev_tryFactor (fun f0_n_32 f0_factorCount_33 f0_invariantCount_34 am371_37 am372_40 am373_43 am374_46 am375_49 am376_52 am377_55 => zq_fo (zq_add x1 1) (fun x1_56 => ih x1_56 f0_n_32 f0_factorCount_33 f0_invariantCount_34 am371_37 am372_40 am373_43 am374_46 am375_49 am376_52 am377_55)) f0_n f0_factorCount f0_invariantCount a1 a2 a3 a4 a5 a6 a7 x1 2)) n
theorem eq_findFactors_28 (K : zq_K) (n x1 f0_n f0_factorCount f0_invariantCount a1 a2 a3 a4 a5 a6 a7 : Nat) : ev_findFactors_28 K (n + 1) x1 f0_n f0_factorCount f0_invariantCount a1 a2 a3 a4 a5 a6 a7 = (zq_if (zq_le 50 x1) (ev_degreeOf (fun r_3 => zq_if (zq_le r_3 0) (K f0_n f0_factorCount f0_invariantCount a1 a2 a3 a4 a5 a6 a7) (ev_numberOf (fun r_5 => ev_addFactor (fun f0_n_7 f0_factorCount_8 f0_invariantCount_9 am651_12 am652_15 am653_18 am654_21 am655_24 am656_27 am657_30 => K f0_n_7 f0_factorCount_8 f0_invariantCount_9 am651_12 am652_15 am653_18 am654_21 am655_24 am656_27 am657_30) f0_n f0_factorCount f0_invariantCount a1 a2 a3 a4 a5 a6 a7 r_5 r_3) f0_n f0_factorCount f0_invariantCount a1 a2 a3 a4 a5 a6 a7 0)) f0_n f0_factorCount f0_invariantCount a1 a2 a3 a4 a5 a6 a7 0) (ev_tryFactor (fun f0_n_32 f0_factorCount_33 f0_invariantCount_34 am371_37 am372_40 am373_43 am374_46 am375_49 am376_52 am377_55 => zq_fo (zq_add x1 1) (fun x1_56 => (ev_findFactors_28 K n) x1_56 f0_n_32 f0_factorCount_33 f0_invariantCount_34 am371_37 am372_40 am373_43 am374_46 am375_49 am376_52 am377_55)) f0_n f0_factorCount f0_invariantCount a1 a2 a3 a4 a5 a6 a7 x1 2)) := rfl
theorem sm_findFactors_28 {r : Nat} (hr : r < 4) {post : St2 → Prop} {K : zq_K} (hK : zq_H r K post) : ∀ (n x1 f0_n f0_factorCount f0_invariantCount a1 a2 a3 a4 a5 a6 a7 : Nat) (a1f : Nat → Int32), zq_AE r a1f a1 → ev_findFactors_28 K n x1 f0_n f0_factorCount f0_invariantCount a1 a2 a3 a4 a5 a6 a7 = true → wX_findFactors_28 post n (nI x1) (nI f0_n) (nI f0_factorCount) (nI f0_invariantCount) a1f (zq_ar a2) (zq_ar a3) (zq_ar a4) (zq_ar a5) (zq_ar a6) (zq_ar a7) := by
  intro n
  induction n with
  | zero =>
    intro x1 f0_n f0_factorCount f0_invariantCount a1 a2 a3 a4 a5 a6 a7 a1f a1h h
    exact absurd h Bool.false_ne_true
  | succ n ih =>
    intro x1 f0_n f0_factorCount f0_invariantCount a1 a2 a3 a4 a5 a6 a7 a1f a1h h
    rw [eq_findFactors_28] at h
    refine zf_if (zc_le (show (50 : Int32) = nI 50 from rfl) (Eq.refl (nI x1))) h (fun h => ?_) (fun h => ?_)
    · refine sm_degreeOf hr a1h (show (0 : Int32) = nI 0 from rfl) h (fun q_v r_3 q_e h => ?_)
      subst q_e
      refine zf_if (zc_le (Eq.refl (nI r_3)) (show (0 : Int32) = nI 0 from rfl)) h (fun h => ?_) (fun h => ?_)
      · exact hK _ _ _ _ _ _ _ _ _ _ _ a1h h
      · refine sm_numberOf hr a1h (show (0 : Int32) = nI 0 from rfl) h (fun q_v r_5 q_e h => ?_)
        subst q_e
        refine sm_addFactor hr a1h (Eq.refl (nI r_5)) (Eq.refl (nI r_3)) h (fun f0_n_7 f0_factorCount_8 f0_invariantCount_9 am651_12 am652_15 am653_18 am654_21 am655_24 am656_27 am657_30 am651_12f am651_12h h => ?_)
        exact hK _ _ _ _ _ _ _ _ _ _ _ am651_12h h
    · refine sm_tryFactor hr a1h (Eq.refl (nI x1)) (show (2 : Int32) = nI 2 from rfl) h (fun f0_n_32 f0_factorCount_33 f0_invariantCount_34 am371_37 am372_40 am373_43 am374_46 am375_49 am376_52 am377_55 am371_37f am371_37h h => ?_)
      refine zf_nm (zt_add (Eq.refl (nI x1)) (show (1 : Int32) = nI 1 from rfl)) h (fun x1_56 h => ?_)
      exact ih x1_56 f0_n_32 f0_factorCount_33 f0_invariantCount_34 am371_37 am372_40 am373_43 am374_46 am375_49 am376_52 am377_55 am371_37f am371_37h h
noncomputable def ev_findFactors_7 (K : zq_K) (n : Nat) : Nat → Nat → Nat → Nat → Nat → Nat → Nat → Nat → Nat → Nat → Nat → Bool := @Nat.rec (fun _ => Nat → Nat → Nat → Nat → Nat → Nat → Nat → Nat → Nat → Nat → Nat → Bool) (fun _ _ _ _ _ _ _ _ _ _ _ => false) (fun _ ih => fun x1 f0_n f0_factorCount f0_invariantCount a1 a2 a3 a4 a5 a6 a7 => zq_if (zq_le 10 x1) (ev_findFactors_28 K 40 25 f0_n f0_factorCount f0_invariantCount a1 a2 a3 a4 a5 a6 a7) (ev_tryFactor (fun f0_n_58 f0_factorCount_59 f0_invariantCount_60 am161_63 am162_66 am163_69 am164_72 am165_75 am166_78 am167_81 => zq_fo (zq_add x1 1) (fun x1_82 => ih x1_82 f0_n_58 f0_factorCount_59 f0_invariantCount_60 am161_63 am162_66 am163_69 am164_72 am165_75 am166_78 am167_81)) f0_n f0_factorCount f0_invariantCount a1 a2 a3 a4 a5 a6 a7 x1 1)) n
theorem eq_findFactors_7 (K : zq_K) (n x1 f0_n f0_factorCount f0_invariantCount a1 a2 a3 a4 a5 a6 a7 : Nat) : ev_findFactors_7 K (n + 1) x1 f0_n f0_factorCount f0_invariantCount a1 a2 a3 a4 a5 a6 a7 = (zq_if (zq_le 10 x1) (ev_findFactors_28 K 40 25 f0_n f0_factorCount f0_invariantCount a1 a2 a3 a4 a5 a6 a7) (ev_tryFactor (fun f0_n_58 f0_factorCount_59 f0_invariantCount_60 am161_63 am162_66 am163_69 am164_72 am165_75 am166_78 am167_81 => zq_fo (zq_add x1 1) (fun x1_82 => (ev_findFactors_7 K n) x1_82 f0_n_58 f0_factorCount_59 f0_invariantCount_60 am161_63 am162_66 am163_69 am164_72 am165_75 am166_78 am167_81)) f0_n f0_factorCount f0_invariantCount a1 a2 a3 a4 a5 a6 a7 x1 1)) := rfl
theorem sm_findFactors_7 {r : Nat} (hr : r < 4) {post : St2 → Prop} {K : zq_K} (hK : zq_H r K post) : ∀ (n x1 f0_n f0_factorCount f0_invariantCount a1 a2 a3 a4 a5 a6 a7 : Nat) (a1f : Nat → Int32), zq_AE r a1f a1 → ev_findFactors_7 K n x1 f0_n f0_factorCount f0_invariantCount a1 a2 a3 a4 a5 a6 a7 = true → wX_findFactors_7 post n (nI x1) (nI f0_n) (nI f0_factorCount) (nI f0_invariantCount) a1f (zq_ar a2) (zq_ar a3) (zq_ar a4) (zq_ar a5) (zq_ar a6) (zq_ar a7) := by
  intro n
  induction n with
  | zero =>
    intro x1 f0_n f0_factorCount f0_invariantCount a1 a2 a3 a4 a5 a6 a7 a1f a1h h
    exact absurd h Bool.false_ne_true
  | succ n ih =>
    intro x1 f0_n f0_factorCount f0_invariantCount a1 a2 a3 a4 a5 a6 a7 a1f a1h h
    rw [eq_findFactors_7] at h
    refine zf_if (zc_le (show (10 : Int32) = nI 10 from rfl) (Eq.refl (nI x1))) h (fun h => ?_) (fun h => ?_)
    · refine ⟨40, ?_⟩
      exact sm_findFactors_28 hr  hK 40 25 f0_n f0_factorCount f0_invariantCount a1 a2 a3 a4 a5 a6 a7 a1f a1h h
    · refine sm_tryFactor hr a1h (Eq.refl (nI x1)) (show (1 : Int32) = nI 1 from rfl) h (fun f0_n_58 f0_factorCount_59 f0_invariantCount_60 am161_63 am162_66 am163_69 am164_72 am165_75 am166_78 am167_81 am161_63f am161_63h h => ?_)
      refine zf_nm (zt_add (Eq.refl (nI x1)) (show (1 : Int32) = nI 1 from rfl)) h (fun x1_82 h => ?_)
      exact ih x1_82 f0_n_58 f0_factorCount_59 f0_invariantCount_60 am161_63 am162_66 am163_69 am164_72 am165_75 am166_78 am167_81 am161_63f am161_63h h
noncomputable def ev_findFactors (K : zq_K) (f0_n f0_factorCount f0_invariantCount a1 a2 a3 a4 a5 a6 a7 : Nat) : Bool := ev_findFactors_7 K 40 5 f0_n 0 f0_invariantCount a1 a2 a3 a4 a5 a6 a7
theorem sm_findFactors {r : Nat} (hr : r < 4) {post : St2 → Prop} {K : zq_K} {f0_n f0_factorCount f0_invariantCount a1 a2 a3 a4 a5 a6 a7 : Nat} {a1f : Nat → Int32} (a1h : zq_AE r a1f a1)  (h : ev_findFactors K f0_n f0_factorCount f0_invariantCount a1 a2 a3 a4 a5 a6 a7 = true) (hK : zq_H r K post) : wpX_findFactors post ((nI f0_n), (nI f0_factorCount), (nI f0_invariantCount), a1f, (zq_ar a2), (zq_ar a3), (zq_ar a4), (zq_ar a5), (zq_ar a6), (zq_ar a7))  := by
  unfold ev_findFactors at h
  unfold wpX_findFactors
  dsimp only
  refine ⟨40, ?_⟩
  exact sm_findFactors_7 hr  hK 40 5 f0_n 0 f0_invariantCount a1 a2 a3 a4 a5 a6 a7 a1f a1h h
noncomputable def ev_multiplyPoly_19 (K : zq_K) (B_J9 : Nat → Nat → Nat → Nat → Nat → Nat → Nat → Nat → Nat → Nat → Nat → Bool) (x1 x2 x3 x4 : Nat) (n : Nat) : Nat → Nat → Nat → Nat → Nat → Nat → Nat → Nat → Nat → Nat → Nat → Bool := @Nat.rec (fun _ => Nat → Nat → Nat → Nat → Nat → Nat → Nat → Nat → Nat → Nat → Nat → Bool) (fun _ _ _ _ _ _ _ _ _ _ _ => false) (fun _ ih => fun x5 f0_n f0_factorCount f0_invariantCount am31 am32 am33 am34 am35 am36 am37 => zq_if (zq_le 10 (zq_add x4 x5)) (zq_fo (zq_add x4 1) (fun x4_53 => B_J9 x4_53 f0_n f0_factorCount f0_invariantCount am31 am32 am33 am34 am35 am36 am37)) (zq_if (Nat.ble (Nat.succ (zq_add (zq_mul 10 x2) x4)) 130) (zq_if (Nat.ble (Nat.succ (zq_add (zq_mul 10 x3) x5)) 130) (zq_fo (zq_add x4 x5) (fun q0 => zq_fo (zq_mul (zq_rd am32 (zq_cl (zq_add (zq_mul 10 x2) x4))) (zq_rd am32 (zq_cl (zq_add (zq_mul 10 x3) x5)))) (fun q1 => ev_addCoefficient (fun f0_n_57 f0_factorCount_58 f0_invariantCount_59 am621_62 am622_65 am623_68 am624_71 am625_74 am626_77 am627_80 => zq_fo (zq_add x5 1) (fun x5_81 => ih x5_81 f0_n_57 f0_factorCount_58 f0_invariantCount_59 am621_62 am622_65 am623_68 am624_71 am625_74 am626_77 am627_80)) f0_n f0_factorCount f0_invariantCount am31 am32 am33 am34 am35 am36 am37 7 q0 q1))) false) false)) n
theorem eq_multiplyPoly_19 (K : zq_K) (B_J9 : Nat → Nat → Nat → Nat → Nat → Nat → Nat → Nat → Nat → Nat → Nat → Bool) (n x1 x2 x3 x4 x5 f0_n f0_factorCount f0_invariantCount am31 am32 am33 am34 am35 am36 am37 : Nat) : ev_multiplyPoly_19 K B_J9 x1 x2 x3 x4 (n + 1) x5 f0_n f0_factorCount f0_invariantCount am31 am32 am33 am34 am35 am36 am37 = (zq_if (zq_le 10 (zq_add x4 x5)) (zq_fo (zq_add x4 1) (fun x4_53 => B_J9 x4_53 f0_n f0_factorCount f0_invariantCount am31 am32 am33 am34 am35 am36 am37)) (zq_if (Nat.ble (Nat.succ (zq_add (zq_mul 10 x2) x4)) 130) (zq_if (Nat.ble (Nat.succ (zq_add (zq_mul 10 x3) x5)) 130) (zq_fo (zq_add x4 x5) (fun q0 => zq_fo (zq_mul (zq_rd am32 (zq_cl (zq_add (zq_mul 10 x2) x4))) (zq_rd am32 (zq_cl (zq_add (zq_mul 10 x3) x5)))) (fun q1 => ev_addCoefficient (fun f0_n_57 f0_factorCount_58 f0_invariantCount_59 am621_62 am622_65 am623_68 am624_71 am625_74 am626_77 am627_80 => zq_fo (zq_add x5 1) (fun x5_81 => (ev_multiplyPoly_19 K B_J9 x1 x2 x3 x4 n) x5_81 f0_n_57 f0_factorCount_58 f0_invariantCount_59 am621_62 am622_65 am623_68 am624_71 am625_74 am626_77 am627_80)) f0_n f0_factorCount f0_invariantCount am31 am32 am33 am34 am35 am36 am37 7 q0 q1))) false) false)) := rfl
theorem sm_multiplyPoly_19 {r : Nat} (hr : r < 4) {post : St2 → Prop} {K : zq_K} {J9 : Int32 → Int32 → Int32 → Int32 → (Nat → Int32) → (Nat → Int32) → (Nat → Int32) → (Nat → Int32) → (Nat → Int32) → (Nat → Int32) → (Nat → Int32) → Prop} {B_J9 : Nat → Nat → Nat → Nat → Nat → Nat → Nat → Nat → Nat → Nat → Nat → Bool} (hK : zq_H r K post) (hJ9 : ∀ (y0 y1 y2 y3 y4 y5 y6 y7 y8 y9 y10 : Nat) (yf : Nat → Int32), zq_AE r yf y4 → B_J9 y0 y1 y2 y3 y4 y5 y6 y7 y8 y9 y10 = true → J9 (nI y0) (nI y1) (nI y2) (nI y3) yf (zq_ar y5) (zq_ar y6) (zq_ar y7) (zq_ar y8) (zq_ar y9) (zq_ar y10)) (x1 x2 x3 x4 : Nat) : ∀ (n x5 f0_n f0_factorCount f0_invariantCount am31 am32 am33 am34 am35 am36 am37 : Nat) (am31f : Nat → Int32), zq_AE r am31f am31 → ev_multiplyPoly_19 K B_J9 x1 x2 x3 x4 n x5 f0_n f0_factorCount f0_invariantCount am31 am32 am33 am34 am35 am36 am37 = true → wX_multiplyPoly_19 post J9 (nI x1) (nI x2) (nI x3) (nI x4) n (nI x5) (nI f0_n) (nI f0_factorCount) (nI f0_invariantCount) am31f (zq_ar am32) (zq_ar am33) (zq_ar am34) (zq_ar am35) (zq_ar am36) (zq_ar am37) := by
  intro n
  induction n with
  | zero =>
    intro x5 f0_n f0_factorCount f0_invariantCount am31 am32 am33 am34 am35 am36 am37 am31f am31h h
    exact absurd h Bool.false_ne_true
  | succ n ih =>
    intro x5 f0_n f0_factorCount f0_invariantCount am31 am32 am33 am34 am35 am36 am37 am31f am31h h
    rw [eq_multiplyPoly_19] at h
    refine zf_if (zc_le (show (10 : Int32) = nI 10 from rfl) (zt_add (Eq.refl (nI x4)) (Eq.refl (nI x5)))) h (fun h => ?_) (fun h => ?_)
    · refine zf_nm (zt_add (Eq.refl (nI x4)) (show (1 : Int32) = nI 1 from rfl)) h (fun x4_53 h => ?_)
      exact hJ9 x4_53 f0_n f0_factorCount f0_invariantCount am31 am32 am33 am34 am35 am36 am37 am31f am31h h
    · refine zf_in (zt_add (zt_mul (show (10 : Int32) = nI 10 from rfl) (Eq.refl (nI x2))) (Eq.refl (nI x4))) (by decide) h (fun h => ?_)
      refine zf_in (zt_add (zt_mul (show (10 : Int32) = nI 10 from rfl) (Eq.refl (nI x3))) (Eq.refl (nI x5))) (by decide) h (fun h => ?_)
      have h := zq_fo_t h
      have h := zq_fo_t h
      refine sm_addCoefficient hr am31h (show (7 : Int32) = nI 7 from rfl) (zt_add (Eq.refl (nI x4)) (Eq.refl (nI x5))) (zt_mul (zt_rd (zt_cl (zt_add (zt_mul (show (10 : Int32) = nI 10 from rfl) (Eq.refl (nI x2))) (Eq.refl (nI x4))))) (zt_rd (zt_cl (zt_add (zt_mul (show (10 : Int32) = nI 10 from rfl) (Eq.refl (nI x3))) (Eq.refl (nI x5)))))) h (fun f0_n_57 f0_factorCount_58 f0_invariantCount_59 am621_62 am622_65 am623_68 am624_71 am625_74 am626_77 am627_80 am621_62f am621_62h h => ?_)
      refine zf_nm (zt_add (Eq.refl (nI x5)) (show (1 : Int32) = nI 1 from rfl)) h (fun x5_81 h => ?_)
      exact ih x5_81 f0_n_57 f0_factorCount_58 f0_invariantCount_59 am621_62 am622_65 am623_68 am624_71 am625_74 am626_77 am627_80 am621_62f am621_62h h
noncomputable def ev_multiplyPoly_9 (K : zq_K) (x1 x2 x3 : Nat) (n : Nat) : Nat → Nat → Nat → Nat → Nat → Nat → Nat → Nat → Nat → Nat → Nat → Bool := @Nat.rec (fun _ => Nat → Nat → Nat → Nat → Nat → Nat → Nat → Nat → Nat → Nat → Nat → Bool) (fun _ _ _ _ _ _ _ _ _ _ _ => false) (fun _ ih => fun x4 f0_n f0_factorCount f0_invariantCount am31 am32 am33 am34 am35 am36 am37 => zq_if (zq_le 10 x4) (ev_copyPoly (fun f0_n_28 f0_factorCount_29 f0_invariantCount_30 am811_33 am812_36 am813_39 am814_42 am815_45 am816_48 am817_51 => K f0_n_28 f0_factorCount_29 f0_invariantCount_30 am811_33 am812_36 am813_39 am814_42 am815_45 am816_48 am817_51) f0_n f0_factorCount f0_invariantCount am31 am32 am33 am34 am35 am36 am37 x1 7) (ev_multiplyPoly_19 K ih x1 x2 x3 x4 40 0 f0_n f0_factorCount f0_invariantCount am31 am32 am33 am34 am35 am36 am37)) n
theorem eq_multiplyPoly_9 (K : zq_K) (n x1 x2 x3 x4 f0_n f0_factorCount f0_invariantCount am31 am32 am33 am34 am35 am36 am37 : Nat) : ev_multiplyPoly_9 K x1 x2 x3 (n + 1) x4 f0_n f0_factorCount f0_invariantCount am31 am32 am33 am34 am35 am36 am37 = (zq_if (zq_le 10 x4) (ev_copyPoly (fun f0_n_28 f0_factorCount_29 f0_invariantCount_30 am811_33 am812_36 am813_39 am814_42 am815_45 am816_48 am817_51 => K f0_n_28 f0_factorCount_29 f0_invariantCount_30 am811_33 am812_36 am813_39 am814_42 am815_45 am816_48 am817_51) f0_n f0_factorCount f0_invariantCount am31 am32 am33 am34 am35 am36 am37 x1 7) (ev_multiplyPoly_19 K (ev_multiplyPoly_9 K x1 x2 x3 n) x1 x2 x3 x4 40 0 f0_n f0_factorCount f0_invariantCount am31 am32 am33 am34 am35 am36 am37)) := rfl
theorem sm_multiplyPoly_9 {r : Nat} (hr : r < 4) {post : St2 → Prop} {K : zq_K} (hK : zq_H r K post) (x1 x2 x3 : Nat) : ∀ (n x4 f0_n f0_factorCount f0_invariantCount am31 am32 am33 am34 am35 am36 am37 : Nat) (am31f : Nat → Int32), zq_AE r am31f am31 → ev_multiplyPoly_9 K x1 x2 x3 n x4 f0_n f0_factorCount f0_invariantCount am31 am32 am33 am34 am35 am36 am37 = true → wX_multiplyPoly_9 post (nI x1) (nI x2) (nI x3) n (nI x4) (nI f0_n) (nI f0_factorCount) (nI f0_invariantCount) am31f (zq_ar am32) (zq_ar am33) (zq_ar am34) (zq_ar am35) (zq_ar am36) (zq_ar am37) := by
  intro n
  induction n with
  | zero =>
    intro x4 f0_n f0_factorCount f0_invariantCount am31 am32 am33 am34 am35 am36 am37 am31f am31h h
    exact absurd h Bool.false_ne_true
  | succ n ih =>
    intro x4 f0_n f0_factorCount f0_invariantCount am31 am32 am33 am34 am35 am36 am37 am31f am31h h
    rw [eq_multiplyPoly_9] at h
    refine zf_if (zc_le (show (10 : Int32) = nI 10 from rfl) (Eq.refl (nI x4))) h (fun h => ?_) (fun h => ?_)
    · refine sm_copyPoly hr am31h (Eq.refl (nI x1)) (show (7 : Int32) = nI 7 from rfl) h (fun f0_n_28 f0_factorCount_29 f0_invariantCount_30 am811_33 am812_36 am813_39 am814_42 am815_45 am816_48 am817_51 am811_33f am811_33h h => ?_)
      exact hK _ _ _ _ _ _ _ _ _ _ _ am811_33h h
    · refine ⟨40, ?_⟩
      exact sm_multiplyPoly_19 hr (J9 := wX_multiplyPoly_9 post (nI x1) (nI x2) (nI x3) n) (B_J9 := ev_multiplyPoly_9 K x1 x2 x3 n) hK ih x1 x2 x3 x4 40 0 f0_n f0_factorCount f0_invariantCount am31 am32 am33 am34 am35 am36 am37 am31f am31h h
noncomputable def ev_multiplyPoly (K : zq_K) (f0_n f0_factorCount f0_invariantCount a1 a2 a3 a4 a5 a6 a7 p0 p1 p2 : Nat) : Bool := ev_clearPoly (fun f0_n_2 f0_factorCount_3 f0_invariantCount_4 am31_7 am32_10 am33_13 am34_16 am35_19 am36_22 am37_25 => ev_multiplyPoly_9 K p0 p1 p2 40 0 f0_n_2 f0_factorCount_3 f0_invariantCount_4 am31_7 am32_10 am33_13 am34_16 am35_19 am36_22 am37_25) f0_n f0_factorCount f0_invariantCount a1 a2 a3 a4 a5 a6 a7 7
theorem sm_multiplyPoly {r : Nat} (hr : r < 4) {post : St2 → Prop} {K : zq_K} {f0_n f0_factorCount f0_invariantCount a1 a2 a3 a4 a5 a6 a7 p0 p1 p2 : Nat} {a1f : Nat → Int32} {v_p0 v_p1 v_p2 : Int32} (a1h : zq_AE r a1f a1) (e_p0 : v_p0 = nI p0) (e_p1 : v_p1 = nI p1) (e_p2 : v_p2 = nI p2) (h : ev_multiplyPoly K f0_n f0_factorCount f0_invariantCount a1 a2 a3 a4 a5 a6 a7 p0 p1 p2 = true) (hK : zq_H r K post) : wpX_multiplyPoly post ((nI f0_n), (nI f0_factorCount), (nI f0_invariantCount), a1f, (zq_ar a2), (zq_ar a3), (zq_ar a4), (zq_ar a5), (zq_ar a6), (zq_ar a7)) v_p0 v_p1 v_p2 := by
  subst e_p0 e_p1 e_p2
  unfold ev_multiplyPoly at h
  unfold wpX_multiplyPoly
  dsimp only
  refine sm_clearPoly hr a1h (show (7 : Int32) = nI 7 from rfl) h (fun f0_n_2 f0_factorCount_3 f0_invariantCount_4 am31_7 am32_10 am33_13 am34_16 am35_19 am36_22 am37_25 am31_7f am31_7h h => ?_)
  refine ⟨40, ?_⟩
  exact sm_multiplyPoly_9 hr  hK p0 p1 p2 40 0 f0_n_2 f0_factorCount_3 f0_invariantCount_4 am31_7 am32_10 am33_13 am34_16 am35_19 am36_22 am37_25 am31_7f am31_7h h
noncomputable def ev_multiplyPowers_13 (K : zq_K) (x1 x2 : Nat) (n : Nat) : Nat → Nat → Nat → Nat → Nat → Nat → Nat → Nat → Nat → Nat → Nat → Bool := @Nat.rec (fun _ => Nat → Nat → Nat → Nat → Nat → Nat → Nat → Nat → Nat → Nat → Nat → Bool) (fun _ _ _ _ _ _ _ _ _ _ _ => false) (fun _ ih => fun x3 f0_n f0_factorCount f0_invariantCount am81 am82 am83 am84 am85 am86 am87 => zq_if (zq_le 4 x3) (K f0_n f0_factorCount f0_invariantCount am81 am82 am83 am84 am85 am86 am87) (zq_if (Nat.ble (Nat.succ (zq_add (zq_mul 4 x1) x3)) 16) (zq_if (zq_le (zq_rd am85 (zq_cl (zq_add (zq_mul 4 x1) x3))) x2) (zq_fo (zq_add x3 1) (fun x3_30 => ih x3_30 f0_n f0_factorCount f0_invariantCount am81 am82 am83 am84 am85 am86 am87)) (ev_multiplyPoly (fun f0_n_32 f0_factorCount_33 f0_invariantCount_34 am361_37 am362_40 am363_43 am364_46 am365_49 am366_52 am367_55 => zq_fo (zq_add x3 1) (fun x3_56 => ih x3_56 f0_n_32 f0_factorCount_33 f0_invariantCount_34 am361_37 am362_40 am363_43 am364_46 am365_49 am366_52 am367_55)) f0_n f0_factorCount f0_invariantCount am81 am82 am83 am84 am85 am86 am87 0 0 1)) false)) n
theorem eq_multiplyPowers_13 (K : zq_K) (n x1 x2 x3 f0_n f0_factorCount f0_invariantCount am81 am82 am83 am84 am85 am86 am87 : Nat) : ev_multiplyPowers_13 K x1 x2 (n + 1) x3 f0_n f0_factorCount f0_invariantCount am81 am82 am83 am84 am85 am86 am87 = (zq_if (zq_le 4 x3) (K f0_n f0_factorCount f0_invariantCount am81 am82 am83 am84 am85 am86 am87) (zq_if (Nat.ble (Nat.succ (zq_add (zq_mul 4 x1) x3)) 16) (zq_if (zq_le (zq_rd am85 (zq_cl (zq_add (zq_mul 4 x1) x3))) x2) (zq_fo (zq_add x3 1) (fun x3_30 => (ev_multiplyPowers_13 K x1 x2 n) x3_30 f0_n f0_factorCount f0_invariantCount am81 am82 am83 am84 am85 am86 am87)) (ev_multiplyPoly (fun f0_n_32 f0_factorCount_33 f0_invariantCount_34 am361_37 am362_40 am363_43 am364_46 am365_49 am366_52 am367_55 => zq_fo (zq_add x3 1) (fun x3_56 => (ev_multiplyPowers_13 K x1 x2 n) x3_56 f0_n_32 f0_factorCount_33 f0_invariantCount_34 am361_37 am362_40 am363_43 am364_46 am365_49 am366_52 am367_55)) f0_n f0_factorCount f0_invariantCount am81 am82 am83 am84 am85 am86 am87 0 0 1)) false)) := rfl
theorem sm_multiplyPowers_13 {r : Nat} (hr : r < 4) {post : St2 → Prop} {K : zq_K} (hK : zq_H r K post) (x1 x2 : Nat) : ∀ (n x3 f0_n f0_factorCount f0_invariantCount am81 am82 am83 am84 am85 am86 am87 : Nat) (am81f : Nat → Int32), zq_AE r am81f am81 → ev_multiplyPowers_13 K x1 x2 n x3 f0_n f0_factorCount f0_invariantCount am81 am82 am83 am84 am85 am86 am87 = true → wX_multiplyPowers_13 post (nI x1) (nI x2) n (nI x3) (nI f0_n) (nI f0_factorCount) (nI f0_invariantCount) am81f (zq_ar am82) (zq_ar am83) (zq_ar am84) (zq_ar am85) (zq_ar am86) (zq_ar am87) := by
  intro n
  induction n with
  | zero =>
    intro x3 f0_n f0_factorCount f0_invariantCount am81 am82 am83 am84 am85 am86 am87 am81f am81h h
    exact absurd h Bool.false_ne_true
  | succ n ih =>
    intro x3 f0_n f0_factorCount f0_invariantCount am81 am82 am83 am84 am85 am86 am87 am81f am81h h
    rw [eq_multiplyPowers_13] at h
    refine zf_if (zc_le (show (4 : Int32) = nI 4 from rfl) (Eq.refl (nI x3))) h (fun h => ?_) (fun h => ?_)
    · exact hK _ _ _ _ _ _ _ _ _ _ _ am81h h
    · refine zf_in (zt_add (zt_mul (show (4 : Int32) = nI 4 from rfl) (Eq.refl (nI x1))) (Eq.refl (nI x3))) (by decide) h (fun h => ?_)
      refine zf_if (zc_le (zt_rd (zt_cl (zt_add (zt_mul (show (4 : Int32) = nI 4 from rfl) (Eq.refl (nI x1))) (Eq.refl (nI x3))))) (Eq.refl (nI x2))) h (fun h => ?_) (fun h => ?_)
      · refine zf_nm (zt_add (Eq.refl (nI x3)) (show (1 : Int32) = nI 1 from rfl)) h (fun x3_30 h => ?_)
        exact ih x3_30 f0_n f0_factorCount f0_invariantCount am81 am82 am83 am84 am85 am86 am87 am81f am81h h
      · refine sm_multiplyPoly hr am81h (show (0 : Int32) = nI 0 from rfl) (show (0 : Int32) = nI 0 from rfl) (show (1 : Int32) = nI 1 from rfl) h (fun f0_n_32 f0_factorCount_33 f0_invariantCount_34 am361_37 am362_40 am363_43 am364_46 am365_49 am366_52 am367_55 am361_37f am361_37h h => ?_)
        refine zf_nm (zt_add (Eq.refl (nI x3)) (show (1 : Int32) = nI 1 from rfl)) h (fun x3_56 h => ?_)
        exact ih x3_56 f0_n_32 f0_factorCount_33 f0_invariantCount_34 am361_37 am362_40 am363_43 am364_46 am365_49 am366_52 am367_55 am361_37f am361_37h h
noncomputable def ev_multiplyPowers (K : zq_K) (f0_n f0_factorCount f0_invariantCount a1 a2 a3 a4 a5 a6 a7 p0 p1 : Nat) : Bool := zq_if (Nat.ble (Nat.succ p0) 4) (zq_fo (zq_rd a3 (zq_cl p0)) (fun q0 => ev_load (fun f0_n_3 f0_factorCount_4 f0_invariantCount_5 am81_8 am82_11 am83_14 am84_17 am85_20 am86_23 am87_26 => ev_multiplyPowers_13 K p0 p1 40 0 f0_n_3 f0_factorCount_4 f0_invariantCount_5 am81_8 am82_11 am83_14 am84_17 am85_20 am86_23 am87_26) f0_n f0_factorCount f0_invariantCount a1 a2 a3 a4 a5 a6 a7 1 q0)) false
theorem sm_multiplyPowers {r : Nat} (hr : r < 4) {post : St2 → Prop} {K : zq_K} {f0_n f0_factorCount f0_invariantCount a1 a2 a3 a4 a5 a6 a7 p0 p1 : Nat} {a1f : Nat → Int32} {v_p0 v_p1 : Int32} (a1h : zq_AE r a1f a1) (e_p0 : v_p0 = nI p0) (e_p1 : v_p1 = nI p1) (h : ev_multiplyPowers K f0_n f0_factorCount f0_invariantCount a1 a2 a3 a4 a5 a6 a7 p0 p1 = true) (hK : zq_H r K post) : wpX_multiplyPowers post ((nI f0_n), (nI f0_factorCount), (nI f0_invariantCount), a1f, (zq_ar a2), (zq_ar a3), (zq_ar a4), (zq_ar a5), (zq_ar a6), (zq_ar a7)) v_p0 v_p1 := by
  subst e_p0 e_p1
  unfold ev_multiplyPowers at h
  unfold wpX_multiplyPowers
  dsimp only
  refine zf_in (Eq.refl (nI p0)) (by decide) h (fun h => ?_)
  have h := zq_fo_t h
  refine sm_load hr a1h (show (1 : Int32) = nI 1 from rfl) (zt_rd (zt_cl (Eq.refl (nI p0)))) h (fun f0_n_3 f0_factorCount_4 f0_invariantCount_5 am81_8 am82_11 am83_14 am84_17 am85_20 am86_23 am87_26 am81_8f am81_8h h => ?_)
  refine ⟨40, ?_⟩
  exact sm_multiplyPowers_13 hr  hK p0 p1 40 0 f0_n_3 f0_factorCount_4 f0_invariantCount_5 am81_8 am82_11 am83_14 am84_17 am85_20 am86_23 am87_26 am81_8f am81_8h h
noncomputable def ev_buildInvariants_66 (K : zq_K) (B_J50 : Nat → Nat → Nat → Nat → Nat → Nat → Nat → Nat → Nat → Nat → Nat → Bool) (x1 : Nat) (n : Nat) : Nat → Nat → Nat → Nat → Nat → Nat → Nat → Nat → Nat → Nat → Nat → Bool := @Nat.rec (fun _ => Nat → Nat → Nat → Nat → Nat → Nat → Nat → Nat → Nat → Nat → Nat → Bool) (fun _ _ _ _ _ _ _ _ _ _ _ => false) (fun _ ih => fun x2 f0_n f0_factorCount f0_invariantCount am611 am612 am613 am614 am615 am616 am617 => zq_if (zq_le f0_factorCount x2) (ev_numberOf (fun r_29 => zq_if (Nat.ble (Nat.succ (zq_sub (zq_sub f0_invariantCount 1) x1)) 4) (zq_up am616 (zq_cl (zq_sub (zq_sub f0_invariantCount 1) x1)) (zq_s r_29) (fun am616_31 => zq_fo (zq_add x1 1) (fun x1_32 => B_J50 x1_32 f0_n f0_factorCount f0_invariantCount am611 am612 am613 am614 am615 am616_31 am617))) false) f0_n f0_factorCount f0_invariantCount am611 am612 am613 am614 am615 am616 am617 0) (ev_multiplyPowers (fun f0_n_34 f0_factorCount_35 f0_invariantCount_36 am771_39 am772_42 am773_45 am774_48 am775_51 am776_54 am777_57 => zq_fo (zq_add x2 1) (fun x2_58 => ih x2_58 f0_n_34 f0_factorCount_35 f0_invariantCount_36 am771_39 am772_42 am773_45 am774_48 am775_51 am776_54 am777_57)) f0_n f0_factorCount f0_invariantCount am611 am612 am613 am614 am615 am616 am617 x2 x1)) n
theorem eq_buildInvariants_66 (K : zq_K) (B_J50 : Nat → Nat → Nat → Nat → Nat → Nat → Nat → Nat → Nat → Nat → Nat → Bool) (n x1 x2 f0_n f0_factorCount f0_invariantCount am611 am612 am613 am614 am615 am616 am617 : Nat) : ev_buildInvariants_66 K B_J50 x1 (n + 1) x2 f0_n f0_factorCount f0_invariantCount am611 am612 am613 am614 am615 am616 am617 = (zq_if (zq_le f0_factorCount x2) (ev_numberOf (fun r_29 => zq_if (Nat.ble (Nat.succ (zq_sub (zq_sub f0_invariantCount 1) x1)) 4) (zq_up am616 (zq_cl (zq_sub (zq_sub f0_invariantCount 1) x1)) (zq_s r_29) (fun am616_31 => zq_fo (zq_add x1 1) (fun x1_32 => B_J50 x1_32 f0_n f0_factorCount f0_invariantCount am611 am612 am613 am614 am615 am616_31 am617))) false) f0_n f0_factorCount f0_invariantCount am611 am612 am613 am614 am615 am616 am617 0) (ev_multiplyPowers (fun f0_n_34 f0_factorCount_35 f0_invariantCount_36 am771_39 am772_42 am773_45 am774_48 am775_51 am776_54 am777_57 => zq_fo (zq_add x2 1) (fun x2_58 => (ev_buildInvariants_66 K B_J50 x1 n) x2_58 f0_n_34 f0_factorCount_35 f0_invariantCount_36 am771_39 am772_42 am773_45 am774_48 am775_51 am776_54 am777_57)) f0_n f0_factorCount f0_invariantCount am611 am612 am613 am614 am615 am616 am617 x2 x1)) := rfl
theorem sm_buildInvariants_66 {r : Nat} (hr : r < 4) {post : St2 → Prop} {K : zq_K} {J50 : Int32 → Int32 → Int32 → Int32 → (Nat → Int32) → (Nat → Int32) → (Nat → Int32) → (Nat → Int32) → (Nat → Int32) → (Nat → Int32) → (Nat → Int32) → Prop} {B_J50 : Nat → Nat → Nat → Nat → Nat → Nat → Nat → Nat → Nat → Nat → Nat → Bool} (hK : zq_H r K post) (hJ50 : ∀ (y0 y1 y2 y3 y4 y5 y6 y7 y8 y9 y10 : Nat) (yf : Nat → Int32), zq_AE r yf y4 → B_J50 y0 y1 y2 y3 y4 y5 y6 y7 y8 y9 y10 = true → J50 (nI y0) (nI y1) (nI y2) (nI y3) yf (zq_ar y5) (zq_ar y6) (zq_ar y7) (zq_ar y8) (zq_ar y9) (zq_ar y10)) (x1 : Nat) : ∀ (n x2 f0_n f0_factorCount f0_invariantCount am611 am612 am613 am614 am615 am616 am617 : Nat) (am611f : Nat → Int32), zq_AE r am611f am611 → ev_buildInvariants_66 K B_J50 x1 n x2 f0_n f0_factorCount f0_invariantCount am611 am612 am613 am614 am615 am616 am617 = true → wX_buildInvariants_66 post J50 (nI x1) n (nI x2) (nI f0_n) (nI f0_factorCount) (nI f0_invariantCount) am611f (zq_ar am612) (zq_ar am613) (zq_ar am614) (zq_ar am615) (zq_ar am616) (zq_ar am617) := by
  intro n
  induction n with
  | zero =>
    intro x2 f0_n f0_factorCount f0_invariantCount am611 am612 am613 am614 am615 am616 am617 am611f am611h h
    exact absurd h Bool.false_ne_true
  | succ n ih =>
    intro x2 f0_n f0_factorCount f0_invariantCount am611 am612 am613 am614 am615 am616 am617 am611f am611h h
    rw [eq_buildInvariants_66] at h
    refine zf_if (zc_le (Eq.refl (nI f0_factorCount)) (Eq.refl (nI x2))) h (fun h => ?_) (fun h => ?_)
    · refine sm_numberOf hr am611h (show (0 : Int32) = nI 0 from rfl) h (fun q_v r_29 q_e h => ?_)
      subst q_e
      refine zf_in (zt_sub (zt_sub (Eq.refl (nI f0_invariantCount)) (show (1 : Int32) = nI 1 from rfl)) (Eq.refl (nI x1))) (by decide) h (fun h => ?_)
      refine zf_up (zt_cl (zt_sub (zt_sub (Eq.refl (nI f0_invariantCount)) (show (1 : Int32) = nI 1 from rfl)) (Eq.refl (nI x1)))) (zt_s (Eq.refl (nI r_29))) h (fun am616_31 h => ?_)
      refine zf_nm (zt_add (Eq.refl (nI x1)) (show (1 : Int32) = nI 1 from rfl)) h (fun x1_32 h => ?_)
      exact hJ50 x1_32 f0_n f0_factorCount f0_invariantCount am611 am612 am613 am614 am615 am616_31 am617 am611f am611h h
    · refine sm_multiplyPowers hr am611h (Eq.refl (nI x2)) (Eq.refl (nI x1)) h (fun f0_n_34 f0_factorCount_35 f0_invariantCount_36 am771_39 am772_42 am773_45 am774_48 am775_51 am776_54 am777_57 am771_39f am771_39h h => ?_)
      refine zf_nm (zt_add (Eq.refl (nI x2)) (show (1 : Int32) = nI 1 from rfl)) h (fun x2_58 h => ?_)
      exact ih x2_58 f0_n_34 f0_factorCount_35 f0_invariantCount_36 am771_39 am772_42 am773_45 am774_48 am775_51 am776_54 am777_57 am771_39f am771_39h h
noncomputable def ev_buildInvariants_50 (K : zq_K) (n : Nat) : Nat → Nat → Nat → Nat → Nat → Nat → Nat → Nat → Nat → Nat → Nat → Bool := @Nat.rec (fun _ => Nat → Nat → Nat → Nat → Nat → Nat → Nat → Nat → Nat → Nat → Nat → Bool) (fun _ _ _ _ _ _ _ _ _ _ _ => false) (fun _ ih => fun x1 f0_n f0_factorCount f0_invariantCount a1 a2 a3 a4 a5 a6 a7 => zq_if (zq_le f0_invariantCount x1) (K f0_n f0_factorCount f0_invariantCount a1 a2 a3 a4 a5 a6 a7) (ev_load (fun f0_n_4 f0_factorCount_5 f0_invariantCount_6 am611_9 am612_12 am613_15 am614_18 am615_21 am616_24 am617_27 => ev_buildInvariants_66 K ih x1 40 0 f0_n_4 f0_factorCount_5 f0_invariantCount_6 am611_9 am612_12 am613_15 am614_18 am615_21 am616_24 am617_27) f0_n f0_factorCount f0_invariantCount a1 a2 a3 a4 a5 a6 a7 0 1)) n
theorem eq_buildInvariants_50 (K : zq_K) (n x1 f0_n f0_factorCount f0_invariantCount a1 a2 a3 a4 a5 a6 a7 : Nat) : ev_buildInvariants_50 K (n + 1) x1 f0_n f0_factorCount f0_invariantCount a1 a2 a3 a4 a5 a6 a7 = (zq_if (zq_le f0_invariantCount x1) (K f0_n f0_factorCount f0_invariantCount a1 a2 a3 a4 a5 a6 a7) (ev_load (fun f0_n_4 f0_factorCount_5 f0_invariantCount_6 am611_9 am612_12 am613_15 am614_18 am615_21 am616_24 am617_27 => ev_buildInvariants_66 K (ev_buildInvariants_50 K n) x1 40 0 f0_n_4 f0_factorCount_5 f0_invariantCount_6 am611_9 am612_12 am613_15 am614_18 am615_21 am616_24 am617_27) f0_n f0_factorCount f0_invariantCount a1 a2 a3 a4 a5 a6 a7 0 1)) := rfl
theorem sm_buildInvariants_50 {r : Nat} (hr : r < 4) {post : St2 → Prop} {K : zq_K} (hK : zq_H r K post) : ∀ (n x1 f0_n f0_factorCount f0_invariantCount a1 a2 a3 a4 a5 a6 a7 : Nat) (a1f : Nat → Int32), zq_AE r a1f a1 → ev_buildInvariants_50 K n x1 f0_n f0_factorCount f0_invariantCount a1 a2 a3 a4 a5 a6 a7 = true → wX_buildInvariants_50 post n (nI x1) (nI f0_n) (nI f0_factorCount) (nI f0_invariantCount) a1f (zq_ar a2) (zq_ar a3) (zq_ar a4) (zq_ar a5) (zq_ar a6) (zq_ar a7) := by
  intro n
  induction n with
  | zero =>
    intro x1 f0_n f0_factorCount f0_invariantCount a1 a2 a3 a4 a5 a6 a7 a1f a1h h
    exact absurd h Bool.false_ne_true
  | succ n ih =>
    intro x1 f0_n f0_factorCount f0_invariantCount a1 a2 a3 a4 a5 a6 a7 a1f a1h h
    rw [eq_buildInvariants_50] at h
    refine zf_if (zc_le (Eq.refl (nI f0_invariantCount)) (Eq.refl (nI x1))) h (fun h => ?_) (fun h => ?_)
    · exact hK _ _ _ _ _ _ _ _ _ _ _ a1h h
    · refine sm_load hr a1h (show (0 : Int32) = nI 0 from rfl) (show (1 : Int32) = nI 1 from rfl) h (fun f0_n_4 f0_factorCount_5 f0_invariantCount_6 am611_9 am612_12 am613_15 am614_18 am615_21 am616_24 am617_27 am611_9f am611_9h h => ?_)
      refine ⟨40, ?_⟩
      exact sm_buildInvariants_66 hr (J50 := wX_buildInvariants_50 post n) (B_J50 := ev_buildInvariants_50 K n) hK ih x1 40 0 f0_n_4 f0_factorCount_5 f0_invariantCount_6 am611_9 am612_12 am613_15 am614_18 am615_21 am616_24 am617_27 am611_9f am611_9h h
noncomputable def ev_buildInvariants_7 (K : zq_K) (f0_n f0_factorCount a1 a2 a3 a4 a5 a6 a7 : Nat) (n : Nat) : Nat → Nat → Bool := @Nat.rec (fun _ => Nat → Nat → Bool) (fun _ _ => false) (fun _ ih => fun x1 f0_invariantCount => zq_if (zq_le f0_factorCount x1) (ev_buildInvariants_50 K 40 0 f0_n f0_factorCount f0_invariantCount a1 a2 a3 a4 a5 a6 a7) (zq_if (Nat.ble (Nat.succ (zq_mul 4 x1)) 16) (zq_if (zq_le (zq_rd a5 (zq_cl (zq_mul 4 x1))) f0_invariantCount) (zq_fo (zq_add x1 1) (fun x1_61 => ih x1_61 f0_invariantCount)) (zq_if (Nat.ble (Nat.succ (zq_mul 4 x1)) 16) (zq_fo (zq_rd a5 (zq_cl (zq_mul 4 x1))) (fun f_63 => zq_fo (zq_add x1 1) (fun x1_64 => ih x1_64 f_63))) false)) false)) n
theorem eq_buildInvariants_7 (K : zq_K) (n f0_n f0_factorCount a1 a2 a3 a4 a5 a6 a7 x1 f0_invariantCount : Nat) : ev_buildInvariants_7 K f0_n f0_factorCount a1 a2 a3 a4 a5 a6 a7 (n + 1) x1 f0_invariantCount = (zq_if (zq_le f0_factorCount x1) (ev_buildInvariants_50 K 40 0 f0_n f0_factorCount f0_invariantCount a1 a2 a3 a4 a5 a6 a7) (zq_if (Nat.ble (Nat.succ (zq_mul 4 x1)) 16) (zq_if (zq_le (zq_rd a5 (zq_cl (zq_mul 4 x1))) f0_invariantCount) (zq_fo (zq_add x1 1) (fun x1_61 => (ev_buildInvariants_7 K f0_n f0_factorCount a1 a2 a3 a4 a5 a6 a7 n) x1_61 f0_invariantCount)) (zq_if (Nat.ble (Nat.succ (zq_mul 4 x1)) 16) (zq_fo (zq_rd a5 (zq_cl (zq_mul 4 x1))) (fun f_63 => zq_fo (zq_add x1 1) (fun x1_64 => (ev_buildInvariants_7 K f0_n f0_factorCount a1 a2 a3 a4 a5 a6 a7 n) x1_64 f_63))) false)) false)) := rfl
theorem sm_buildInvariants_7 {r : Nat} (hr : r < 4) {post : St2 → Prop} {K : zq_K} (hK : zq_H r K post) (f0_n f0_factorCount a1 a2 a3 a4 a5 a6 a7 : Nat) (a1f : Nat → Int32) (a1h : zq_AE r a1f a1) : ∀ (n x1 f0_invariantCount : Nat), ev_buildInvariants_7 K f0_n f0_factorCount a1 a2 a3 a4 a5 a6 a7 n x1 f0_invariantCount = true → wX_buildInvariants_7 post (nI f0_n) (nI f0_factorCount) a1f (zq_ar a2) (zq_ar a3) (zq_ar a4) (zq_ar a5) (zq_ar a6) (zq_ar a7) n (nI x1) (nI f0_invariantCount) := by
  intro n
  induction n with
  | zero =>
    intro x1 f0_invariantCount h
    exact absurd h Bool.false_ne_true
  | succ n ih =>
    intro x1 f0_invariantCount h
    rw [eq_buildInvariants_7] at h
    refine zf_if (zc_le (Eq.refl (nI f0_factorCount)) (Eq.refl (nI x1))) h (fun h => ?_) (fun h => ?_)
    · refine ⟨40, ?_⟩
      exact sm_buildInvariants_50 hr  hK 40 0 f0_n f0_factorCount f0_invariantCount a1 a2 a3 a4 a5 a6 a7 a1f a1h h
    · refine zf_in (zt_mul (show (4 : Int32) = nI 4 from rfl) (Eq.refl (nI x1))) (by decide) h (fun h => ?_)
      refine zf_if (zc_le (zt_rd (zt_cl (zt_mul (show (4 : Int32) = nI 4 from rfl) (Eq.refl (nI x1))))) (Eq.refl (nI f0_invariantCount))) h (fun h => ?_) (fun h => ?_)
      · refine zf_nm (zt_add (Eq.refl (nI x1)) (show (1 : Int32) = nI 1 from rfl)) h (fun x1_61 h => ?_)
        exact ih x1_61 f0_invariantCount h
      · refine zf_in (zt_mul (show (4 : Int32) = nI 4 from rfl) (Eq.refl (nI x1))) (by decide) h (fun h => ?_)
        refine zf_nm (zt_rd (zt_cl (zt_mul (show (4 : Int32) = nI 4 from rfl) (Eq.refl (nI x1))))) h (fun f_63 h => ?_)
        refine zf_nm (zt_add (Eq.refl (nI x1)) (show (1 : Int32) = nI 1 from rfl)) h (fun x1_64 h => ?_)
        exact ih x1_64 f_63 h
noncomputable def ev_buildInvariants (K : zq_K) (f0_n f0_factorCount f0_invariantCount a1 a2 a3 a4 a5 a6 a7 : Nat) : Bool := ev_buildInvariants_7 K f0_n f0_factorCount a1 a2 a3 a4 a5 a6 a7 40 0 0
theorem sm_buildInvariants {r : Nat} (hr : r < 4) {post : St2 → Prop} {K : zq_K} {f0_n f0_factorCount f0_invariantCount a1 a2 a3 a4 a5 a6 a7 : Nat} {a1f : Nat → Int32} (a1h : zq_AE r a1f a1)  (h : ev_buildInvariants K f0_n f0_factorCount f0_invariantCount a1 a2 a3 a4 a5 a6 a7 = true) (hK : zq_H r K post) : wpX_buildInvariants post ((nI f0_n), (nI f0_factorCount), (nI f0_invariantCount), a1f, (zq_ar a2), (zq_ar a3), (zq_ar a4), (zq_ar a5), (zq_ar a6), (zq_ar a7))  := by
  unfold ev_buildInvariants at h
  unfold wpX_buildInvariants
  dsimp only
  refine ⟨40, ?_⟩
  exact sm_buildInvariants_7 hr  hK f0_n f0_factorCount a1 a2 a3 a4 a5 a6 a7 a1f a1h 40 0 0 h
noncomputable def ev_productSum_6 (K : Nat → Bool) (x1 x2 x3 x4 f0_n f0_factorCount f0_invariantCount a1 a2 a3 a4 a5 a6 a7 : Nat) (n : Nat) : Nat → Nat → Bool := @Nat.rec (fun _ => Nat → Nat → Bool) (fun _ _ => false) (fun _ ih => fun x5 x6 => zq_if (zq_le f0_n x6) (K x5) (ev_entry (fun r_2 => ev_entry (fun r_3 => zq_fo (zq_add x5 (zq_mul r_2 r_3)) (fun x5_4 => zq_fo (zq_add x6 1) (fun x6_5 => ih x5_4 x6_5))) a1 x2 x6 x4) a1 x1 x3 x6)) n
theorem eq_productSum_6 (K : Nat → Bool) (n x1 x2 x3 x4 f0_n f0_factorCount f0_invariantCount a1 a2 a3 a4 a5 a6 a7 x5 x6 : Nat) : ev_productSum_6 K x1 x2 x3 x4 f0_n f0_factorCount f0_invariantCount a1 a2 a3 a4 a5 a6 a7 (n + 1) x5 x6 = (zq_if (zq_le f0_n x6) (K x5) (ev_entry (fun r_2 => ev_entry (fun r_3 => zq_fo (zq_add x5 (zq_mul r_2 r_3)) (fun x5_4 => zq_fo (zq_add x6 1) (fun x6_5 => (ev_productSum_6 K x1 x2 x3 x4 f0_n f0_factorCount f0_invariantCount a1 a2 a3 a4 a5 a6 a7 n) x5_4 x6_5))) a1 x2 x6 x4) a1 x1 x3 x6)) := rfl
theorem sm_productSum_6 {r : Nat} (hr : r < 4) {post : Int32 → Prop} {K : Nat → Bool} (hK : zq_HV K post) (x1 x2 x3 x4 f0_n f0_factorCount f0_invariantCount a1 a2 a3 a4 a5 a6 a7 : Nat) (a1f : Nat → Int32) (a1h : zq_AE r a1f a1) : ∀ (n x5 x6 : Nat), ev_productSum_6 K x1 x2 x3 x4 f0_n f0_factorCount f0_invariantCount a1 a2 a3 a4 a5 a6 a7 n x5 x6 = true → wX_productSum_6 post (nI (zq_pl r x1)) (nI (zq_pl r x2)) (nI x3) (nI x4) (nI f0_n) (nI f0_factorCount) (nI f0_invariantCount) a1f (zq_ar a2) (zq_ar a3) (zq_ar a4) (zq_ar a5) (zq_ar a6) (zq_ar a7) n (nI x5) (nI x6) := by
  intro n
  induction n with
  | zero =>
    intro x5 x6 h
    exact absurd h Bool.false_ne_true
  | succ n ih =>
    intro x5 x6 h
    rw [eq_productSum_6] at h
    refine zf_if (zc_le (Eq.refl (nI f0_n)) (Eq.refl (nI x6))) h (fun h => ?_) (fun h => ?_)
    · exact hK _ _ (Eq.refl (nI x5)) h
    · refine sm_entry hr a1h (Eq.refl (nI (zq_pl r x1))) (Eq.refl (nI x3)) (Eq.refl (nI x6)) h (fun q_v r_2 q_e h => ?_)
      subst q_e
      refine sm_entry hr a1h (Eq.refl (nI (zq_pl r x2))) (Eq.refl (nI x6)) (Eq.refl (nI x4)) h (fun q_v r_3 q_e h => ?_)
      subst q_e
      refine zf_nm (zt_add (Eq.refl (nI x5)) (zt_mul (Eq.refl (nI r_2)) (Eq.refl (nI r_3)))) h (fun x5_4 h => ?_)
      refine zf_nm (zt_add (Eq.refl (nI x6)) (show (1 : Int32) = nI 1 from rfl)) h (fun x6_5 h => ?_)
      exact ih x5_4 x6_5 h
noncomputable def ev_productSum (K : Nat → Bool) (f0_n f0_factorCount f0_invariantCount a1 a2 a3 a4 a5 a6 a7 p0 p1 p2 p3 : Nat) : Bool := ev_productSum_6 K p0 p1 p2 p3 f0_n f0_factorCount f0_invariantCount a1 a2 a3 a4 a5 a6 a7 40 0 0
theorem sm_productSum {r : Nat} (hr : r < 4) {post : Int32 → Prop} {K : Nat → Bool} {f0_n f0_factorCount f0_invariantCount a1 a2 a3 a4 a5 a6 a7 p0 p1 p2 p3 : Nat} {a1f : Nat → Int32} {v_p0 v_p1 v_p2 v_p3 : Int32} (a1h : zq_AE r a1f a1) (e_p0 : v_p0 = nI (zq_pl r p0)) (e_p1 : v_p1 = nI (zq_pl r p1)) (e_p2 : v_p2 = nI p2) (e_p3 : v_p3 = nI p3) (h : ev_productSum K f0_n f0_factorCount f0_invariantCount a1 a2 a3 a4 a5 a6 a7 p0 p1 p2 p3 = true) (hK : zq_HV K post) : wpX_productSum post ((nI f0_n), (nI f0_factorCount), (nI f0_invariantCount), a1f, (zq_ar a2), (zq_ar a3), (zq_ar a4), (zq_ar a5), (zq_ar a6), (zq_ar a7)) v_p0 v_p1 v_p2 v_p3 := by
  subst e_p0 e_p1 e_p2 e_p3
  unfold ev_productSum at h
  unfold wpX_productSum
  dsimp only
  refine ⟨40, ?_⟩
  exact sm_productSum_6 hr  hK p0 p1 p2 p3 f0_n f0_factorCount f0_invariantCount a1 a2 a3 a4 a5 a6 a7 a1f a1h 40 0 0 h
noncomputable def ev_multiply_15 (K : zq_K) (B_J3 : Nat → Nat → Nat → Nat → Nat → Nat → Nat → Nat → Nat → Nat → Nat → Bool) (x1 x2 x3 x4 : Nat) (n : Nat) : Nat → Nat → Nat → Nat → Nat → Nat → Nat → Nat → Nat → Nat → Nat → Bool := @Nat.rec (fun _ => Nat → Nat → Nat → Nat → Nat → Nat → Nat → Nat → Nat → Nat → Nat → Bool) (fun _ _ _ _ _ _ _ _ _ _ _ => false) (fun _ ih => fun x5 f0_n f0_factorCount f0_invariantCount a1 a2 a3 a4 a5 a6 a7 => zq_if (zq_le f0_n x5) (zq_fo (zq_add x4 1) (fun x4_28 => B_J3 x4_28 f0_n f0_factorCount f0_invariantCount a1 a2 a3 a4 a5 a6 a7)) (ev_productSum (fun r_29 => zq_fo (zq_rem r_29 5) (fun q0 => ev_setEntry (fun f0_n_32 f0_factorCount_33 f0_invariantCount_34 am471_37 am472_40 am473_43 am474_46 am475_49 am476_52 am477_55 => zq_fo (zq_add x5 1) (fun x5_56 => ih x5_56 f0_n_32 f0_factorCount_33 f0_invariantCount_34 am471_37 am472_40 am473_43 am474_46 am475_49 am476_52 am477_55)) f0_n f0_factorCount f0_invariantCount a1 a2 a3 a4 a5 a6 a7 5 x4 x5 q0)) f0_n f0_factorCount f0_invariantCount a1 a2 a3 a4 a5 a6 a7 x2 x3 x4 x5)) n
theorem eq_multiply_15 (K : zq_K) (B_J3 : Nat → Nat → Nat → Nat → Nat → Nat → Nat → Nat → Nat → Nat → Nat → Bool) (n x1 x2 x3 x4 x5 f0_n f0_factorCount f0_invariantCount a1 a2 a3 a4 a5 a6 a7 : Nat) : ev_multiply_15 K B_J3 x1 x2 x3 x4 (n + 1) x5 f0_n f0_factorCount f0_invariantCount a1 a2 a3 a4 a5 a6 a7 = (zq_if (zq_le f0_n x5) (zq_fo (zq_add x4 1) (fun x4_28 => B_J3 x4_28 f0_n f0_factorCount f0_invariantCount a1 a2 a3 a4 a5 a6 a7)) (ev_productSum (fun r_29 => zq_fo (zq_rem r_29 5) (fun q0 => ev_setEntry (fun f0_n_32 f0_factorCount_33 f0_invariantCount_34 am471_37 am472_40 am473_43 am474_46 am475_49 am476_52 am477_55 => zq_fo (zq_add x5 1) (fun x5_56 => (ev_multiply_15 K B_J3 x1 x2 x3 x4 n) x5_56 f0_n_32 f0_factorCount_33 f0_invariantCount_34 am471_37 am472_40 am473_43 am474_46 am475_49 am476_52 am477_55)) f0_n f0_factorCount f0_invariantCount a1 a2 a3 a4 a5 a6 a7 5 x4 x5 q0)) f0_n f0_factorCount f0_invariantCount a1 a2 a3 a4 a5 a6 a7 x2 x3 x4 x5)) := rfl
theorem sm_multiply_15 {r : Nat} (hr : r < 4) {post : St2 → Prop} {K : zq_K} {J3 : Int32 → Int32 → Int32 → Int32 → (Nat → Int32) → (Nat → Int32) → (Nat → Int32) → (Nat → Int32) → (Nat → Int32) → (Nat → Int32) → (Nat → Int32) → Prop} {B_J3 : Nat → Nat → Nat → Nat → Nat → Nat → Nat → Nat → Nat → Nat → Nat → Bool} (hK : zq_H r K post) (hJ3 : ∀ (y0 y1 y2 y3 y4 y5 y6 y7 y8 y9 y10 : Nat) (yf : Nat → Int32), zq_AE r yf y4 → B_J3 y0 y1 y2 y3 y4 y5 y6 y7 y8 y9 y10 = true → J3 (nI y0) (nI y1) (nI y2) (nI y3) yf (zq_ar y5) (zq_ar y6) (zq_ar y7) (zq_ar y8) (zq_ar y9) (zq_ar y10)) (x1 x2 x3 x4 : Nat) : ∀ (n x5 f0_n f0_factorCount f0_invariantCount a1 a2 a3 a4 a5 a6 a7 : Nat) (a1f : Nat → Int32), zq_AE r a1f a1 → ev_multiply_15 K B_J3 x1 x2 x3 x4 n x5 f0_n f0_factorCount f0_invariantCount a1 a2 a3 a4 a5 a6 a7 = true → wX_multiply_15 post J3 (nI (zq_pl r x1)) (nI (zq_pl r x2)) (nI (zq_pl r x3)) (nI x4) n (nI x5) (nI f0_n) (nI f0_factorCount) (nI f0_invariantCount) a1f (zq_ar a2) (zq_ar a3) (zq_ar a4) (zq_ar a5) (zq_ar a6) (zq_ar a7) := by
  intro n
  induction n with
  | zero =>
    intro x5 f0_n f0_factorCount f0_invariantCount a1 a2 a3 a4 a5 a6 a7 a1f a1h h
    exact absurd h Bool.false_ne_true
  | succ n ih =>
    intro x5 f0_n f0_factorCount f0_invariantCount a1 a2 a3 a4 a5 a6 a7 a1f a1h h
    rw [eq_multiply_15] at h
    refine zf_if (zc_le (Eq.refl (nI f0_n)) (Eq.refl (nI x5))) h (fun h => ?_) (fun h => ?_)
    · refine zf_nm (zt_add (Eq.refl (nI x4)) (show (1 : Int32) = nI 1 from rfl)) h (fun x4_28 h => ?_)
      exact hJ3 x4_28 f0_n f0_factorCount f0_invariantCount a1 a2 a3 a4 a5 a6 a7 a1f a1h h
    · refine sm_productSum hr a1h (Eq.refl (nI (zq_pl r x2))) (Eq.refl (nI (zq_pl r x3))) (Eq.refl (nI x4)) (Eq.refl (nI x5)) h (fun q_v r_29 q_e h => ?_)
      subst q_e
      refine zf_5 ?_
      have h := zq_fo_t h
      refine sm_setEntry hr a1h (show (8 : Int32) = nI (zq_pl r 5) from rfl) (Eq.refl (nI x4)) (Eq.refl (nI x5)) (zt_rem (Eq.refl (nI r_29)) (show (5 : Int32) = nI 5 from rfl)) h (fun f0_n_32 f0_factorCount_33 f0_invariantCount_34 am471_37 am472_40 am473_43 am474_46 am475_49 am476_52 am477_55 am471_37f am471_37h h => ?_)
      refine zf_nm (zt_add (Eq.refl (nI x5)) (show (1 : Int32) = nI 1 from rfl)) h (fun x5_56 h => ?_)
      exact ih x5_56 f0_n_32 f0_factorCount_33 f0_invariantCount_34 am471_37 am472_40 am473_43 am474_46 am475_49 am476_52 am477_55 am471_37f am471_37h h
noncomputable def ev_multiply_3 (K : zq_K) (x1 x2 x3 : Nat) (n : Nat) : Nat → Nat → Nat → Nat → Nat → Nat → Nat → Nat → Nat → Nat → Nat → Bool := @Nat.rec (fun _ => Nat → Nat → Nat → Nat → Nat → Nat → Nat → Nat → Nat → Nat → Nat → Bool) (fun _ _ _ _ _ _ _ _ _ _ _ => false) (fun _ ih => fun x4 f0_n f0_factorCount f0_invariantCount a1 a2 a3 a4 a5 a6 a7 => zq_if (zq_le f0_n x4) (ev_copy (fun f0_n_3 f0_factorCount_4 f0_invariantCount_5 am661_8 am662_11 am663_14 am664_17 am665_20 am666_23 am667_26 => K f0_n_3 f0_factorCount_4 f0_invariantCount_5 am661_8 am662_11 am663_14 am664_17 am665_20 am666_23 am667_26) f0_n f0_factorCount f0_invariantCount a1 a2 a3 a4 a5 a6 a7 x1 5) (ev_multiply_15 K ih x1 x2 x3 x4 40 0 f0_n f0_factorCount f0_invariantCount a1 a2 a3 a4 a5 a6 a7)) n
theorem eq_multiply_3 (K : zq_K) (n x1 x2 x3 x4 f0_n f0_factorCount f0_invariantCount a1 a2 a3 a4 a5 a6 a7 : Nat) : ev_multiply_3 K x1 x2 x3 (n + 1) x4 f0_n f0_factorCount f0_invariantCount a1 a2 a3 a4 a5 a6 a7 = (zq_if (zq_le f0_n x4) (ev_copy (fun f0_n_3 f0_factorCount_4 f0_invariantCount_5 am661_8 am662_11 am663_14 am664_17 am665_20 am666_23 am667_26 => K f0_n_3 f0_factorCount_4 f0_invariantCount_5 am661_8 am662_11 am663_14 am664_17 am665_20 am666_23 am667_26) f0_n f0_factorCount f0_invariantCount a1 a2 a3 a4 a5 a6 a7 x1 5) (ev_multiply_15 K (ev_multiply_3 K x1 x2 x3 n) x1 x2 x3 x4 40 0 f0_n f0_factorCount f0_invariantCount a1 a2 a3 a4 a5 a6 a7)) := rfl
theorem sm_multiply_3 {r : Nat} (hr : r < 4) {post : St2 → Prop} {K : zq_K} (hK : zq_H r K post) (x1 x2 x3 : Nat) : ∀ (n x4 f0_n f0_factorCount f0_invariantCount a1 a2 a3 a4 a5 a6 a7 : Nat) (a1f : Nat → Int32), zq_AE r a1f a1 → ev_multiply_3 K x1 x2 x3 n x4 f0_n f0_factorCount f0_invariantCount a1 a2 a3 a4 a5 a6 a7 = true → wX_multiply_3 post (nI (zq_pl r x1)) (nI (zq_pl r x2)) (nI (zq_pl r x3)) n (nI x4) (nI f0_n) (nI f0_factorCount) (nI f0_invariantCount) a1f (zq_ar a2) (zq_ar a3) (zq_ar a4) (zq_ar a5) (zq_ar a6) (zq_ar a7) := by
  intro n
  induction n with
  | zero =>
    intro x4 f0_n f0_factorCount f0_invariantCount a1 a2 a3 a4 a5 a6 a7 a1f a1h h
    exact absurd h Bool.false_ne_true
  | succ n ih =>
    intro x4 f0_n f0_factorCount f0_invariantCount a1 a2 a3 a4 a5 a6 a7 a1f a1h h
    rw [eq_multiply_3] at h
    refine zf_if (zc_le (Eq.refl (nI f0_n)) (Eq.refl (nI x4))) h (fun h => ?_) (fun h => ?_)
    · refine sm_copy hr a1h (Eq.refl (nI (zq_pl r x1))) (show (8 : Int32) = nI (zq_pl r 5) from rfl) h (fun f0_n_3 f0_factorCount_4 f0_invariantCount_5 am661_8 am662_11 am663_14 am664_17 am665_20 am666_23 am667_26 am661_8f am661_8h h => ?_)
      exact hK _ _ _ _ _ _ _ _ _ _ _ am661_8h h
    · refine ⟨40, ?_⟩
      exact sm_multiply_15 hr (J3 := wX_multiply_3 post (nI (zq_pl r x1)) (nI (zq_pl r x2)) (nI (zq_pl r x3)) n) (B_J3 := ev_multiply_3 K x1 x2 x3 n) hK ih x1 x2 x3 x4 40 0 f0_n f0_factorCount f0_invariantCount a1 a2 a3 a4 a5 a6 a7 a1f a1h h
noncomputable def ev_multiply (K : zq_K) (f0_n f0_factorCount f0_invariantCount a1 a2 a3 a4 a5 a6 a7 p0 p1 p2 : Nat) : Bool := ev_multiply_3 K p0 p1 p2 40 0 f0_n f0_factorCount f0_invariantCount a1 a2 a3 a4 a5 a6 a7
theorem sm_multiply {r : Nat} (hr : r < 4) {post : St2 → Prop} {K : zq_K} {f0_n f0_factorCount f0_invariantCount a1 a2 a3 a4 a5 a6 a7 p0 p1 p2 : Nat} {a1f : Nat → Int32} {v_p0 v_p1 v_p2 : Int32} (a1h : zq_AE r a1f a1) (e_p0 : v_p0 = nI (zq_pl r p0)) (e_p1 : v_p1 = nI (zq_pl r p1)) (e_p2 : v_p2 = nI (zq_pl r p2)) (h : ev_multiply K f0_n f0_factorCount f0_invariantCount a1 a2 a3 a4 a5 a6 a7 p0 p1 p2 = true) (hK : zq_H r K post) : wpX_multiply post ((nI f0_n), (nI f0_factorCount), (nI f0_invariantCount), a1f, (zq_ar a2), (zq_ar a3), (zq_ar a4), (zq_ar a5), (zq_ar a6), (zq_ar a7)) v_p0 v_p1 v_p2 := by
  subst e_p0 e_p1 e_p2
  unfold ev_multiply at h
  unfold wpX_multiply
  dsimp only
  refine ⟨40, ?_⟩
  exact sm_multiply_3 hr  hK p0 p1 p2 40 0 f0_n f0_factorCount f0_invariantCount a1 a2 a3 a4 a5 a6 a7 a1f a1h h
noncomputable def ev_evaluate_49 (K : zq_K) (B_J34 : Nat → Nat → Nat → Nat → Nat → Nat → Nat → Nat → Nat → Nat → Nat → Bool) (x2 x3 : Nat) (n : Nat) : Nat → Nat → Nat → Nat → Nat → Nat → Nat → Nat → Nat → Nat → Nat → Bool := @Nat.rec (fun _ => Nat → Nat → Nat → Nat → Nat → Nat → Nat → Nat → Nat → Nat → Nat → Bool) (fun _ _ _ _ _ _ _ _ _ _ _ => false) (fun _ ih => fun x4 f0_n f0_factorCount f0_invariantCount am431 am432 am433 am434 am435 am436 am437 => zq_if (zq_le f0_n x4) (zq_fo (zq_add x3 4294967295) (fun x3_54 => B_J34 x3_54 f0_n f0_factorCount f0_invariantCount am431 am432 am433 am434 am435 am436 am437)) (ev_entry (fun r_55 => zq_if (Nat.ble (Nat.succ (zq_add (zq_mul 10 x2) x3)) 130) (zq_fo (zq_add r_55 (zq_rd am432 (zq_cl (zq_add (zq_mul 10 x2) x3)))) (fun x5_57 => zq_fo (zq_rem x5_57 5) (fun q0 => ev_setEntry (fun f0_n_60 f0_factorCount_61 f0_invariantCount_62 am911_65 am912_68 am913_71 am914_74 am915_77 am916_80 am917_83 => zq_fo (zq_add x4 1) (fun x4_84 => ih x4_84 f0_n_60 f0_factorCount_61 f0_invariantCount_62 am911_65 am912_68 am913_71 am914_74 am915_77 am916_80 am917_83)) f0_n f0_factorCount f0_invariantCount am431 am432 am433 am434 am435 am436 am437 1 x4 x4 q0))) false) am431 1 x4 x4)) n
theorem eq_evaluate_49 (K : zq_K) (B_J34 : Nat → Nat → Nat → Nat → Nat → Nat → Nat → Nat → Nat → Nat → Nat → Bool) (n x2 x3 x4 f0_n f0_factorCount f0_invariantCount am431 am432 am433 am434 am435 am436 am437 : Nat) : ev_evaluate_49 K B_J34 x2 x3 (n + 1) x4 f0_n f0_factorCount f0_invariantCount am431 am432 am433 am434 am435 am436 am437 = (zq_if (zq_le f0_n x4) (zq_fo (zq_add x3 4294967295) (fun x3_54 => B_J34 x3_54 f0_n f0_factorCount f0_invariantCount am431 am432 am433 am434 am435 am436 am437)) (ev_entry (fun r_55 => zq_if (Nat.ble (Nat.succ (zq_add (zq_mul 10 x2) x3)) 130) (zq_fo (zq_add r_55 (zq_rd am432 (zq_cl (zq_add (zq_mul 10 x2) x3)))) (fun x5_57 => zq_fo (zq_rem x5_57 5) (fun q0 => ev_setEntry (fun f0_n_60 f0_factorCount_61 f0_invariantCount_62 am911_65 am912_68 am913_71 am914_74 am915_77 am916_80 am917_83 => zq_fo (zq_add x4 1) (fun x4_84 => (ev_evaluate_49 K B_J34 x2 x3 n) x4_84 f0_n_60 f0_factorCount_61 f0_invariantCount_62 am911_65 am912_68 am913_71 am914_74 am915_77 am916_80 am917_83)) f0_n f0_factorCount f0_invariantCount am431 am432 am433 am434 am435 am436 am437 1 x4 x4 q0))) false) am431 1 x4 x4)) := rfl
theorem sm_evaluate_49 {r : Nat} (hr : r < 4) {post : St2 → Prop} {K : zq_K} {J34 : Int32 → Int32 → Int32 → Int32 → (Nat → Int32) → (Nat → Int32) → (Nat → Int32) → (Nat → Int32) → (Nat → Int32) → (Nat → Int32) → (Nat → Int32) → Prop} {B_J34 : Nat → Nat → Nat → Nat → Nat → Nat → Nat → Nat → Nat → Nat → Nat → Bool} (hK : zq_H r K post) (hJ34 : ∀ (y0 y1 y2 y3 y4 y5 y6 y7 y8 y9 y10 : Nat) (yf : Nat → Int32), zq_AE r yf y4 → B_J34 y0 y1 y2 y3 y4 y5 y6 y7 y8 y9 y10 = true → J34 (nI y0) (nI y1) (nI y2) (nI y3) yf (zq_ar y5) (zq_ar y6) (zq_ar y7) (zq_ar y8) (zq_ar y9) (zq_ar y10)) (x2 x3 : Nat) : ∀ (n x4 f0_n f0_factorCount f0_invariantCount am431 am432 am433 am434 am435 am436 am437 : Nat) (am431f : Nat → Int32), zq_AE r am431f am431 → ev_evaluate_49 K B_J34 x2 x3 n x4 f0_n f0_factorCount f0_invariantCount am431 am432 am433 am434 am435 am436 am437 = true → wX_evaluate_49 post J34 (nI x2) (nI x3) n (nI x4) (nI f0_n) (nI f0_factorCount) (nI f0_invariantCount) am431f (zq_ar am432) (zq_ar am433) (zq_ar am434) (zq_ar am435) (zq_ar am436) (zq_ar am437) := by
  intro n
  induction n with
  | zero =>
    intro x4 f0_n f0_factorCount f0_invariantCount am431 am432 am433 am434 am435 am436 am437 am431f am431h h
    exact absurd h Bool.false_ne_true
  | succ n ih =>
    intro x4 f0_n f0_factorCount f0_invariantCount am431 am432 am433 am434 am435 am436 am437 am431f am431h h
    rw [eq_evaluate_49] at h
    refine zf_if (zc_le (Eq.refl (nI f0_n)) (Eq.refl (nI x4))) h (fun h => ?_) (fun h => ?_)
    · refine zf_nm (zt_add (Eq.refl (nI x3)) (show (-1 : Int32) = nI 4294967295 from rfl)) h (fun x3_54 h => ?_)
      exact hJ34 x3_54 f0_n f0_factorCount f0_invariantCount am431 am432 am433 am434 am435 am436 am437 am431f am431h h
    · refine sm_entry hr am431h (show (4 : Int32) = nI (zq_pl r 1) from rfl) (Eq.refl (nI x4)) (Eq.refl (nI x4)) h (fun q_v r_55 q_e h => ?_)
      subst q_e
      refine zf_in (zt_add (zt_mul (show (10 : Int32) = nI 10 from rfl) (Eq.refl (nI x2))) (Eq.refl (nI x3))) (by decide) h (fun h => ?_)
      refine zf_nm (zt_add (Eq.refl (nI r_55)) (zt_rd (zt_cl (zt_add (zt_mul (show (10 : Int32) = nI 10 from rfl) (Eq.refl (nI x2))) (Eq.refl (nI x3)))))) h (fun x5_57 h => ?_)
      refine zf_5 ?_
      have h := zq_fo_t h
      refine sm_setEntry hr am431h (show (4 : Int32) = nI (zq_pl r 1) from rfl) (Eq.refl (nI x4)) (Eq.refl (nI x4)) (zt_rem (Eq.refl (nI x5_57)) (show (5 : Int32) = nI 5 from rfl)) h (fun f0_n_60 f0_factorCount_61 f0_invariantCount_62 am911_65 am912_68 am913_71 am914_74 am915_77 am916_80 am917_83 am911_65f am911_65h h => ?_)
      refine zf_nm (zt_add (Eq.refl (nI x4)) (show (1 : Int32) = nI 1 from rfl)) h (fun x4_84 h => ?_)
      exact ih x4_84 f0_n_60 f0_factorCount_61 f0_invariantCount_62 am911_65 am912_68 am913_71 am914_74 am915_77 am916_80 am917_83 am911_65f am911_65h h
noncomputable def ev_evaluate_34 (K : zq_K) (x2 : Nat) (n : Nat) : Nat → Nat → Nat → Nat → Nat → Nat → Nat → Nat → Nat → Nat → Nat → Bool := @Nat.rec (fun _ => Nat → Nat → Nat → Nat → Nat → Nat → Nat → Nat → Nat → Nat → Nat → Bool) (fun _ _ _ _ _ _ _ _ _ _ _ => false) (fun _ ih => fun x3 f0_n f0_factorCount f0_invariantCount am41 am42 am43 am44 am45 am46 am47 => zq_if (zq_lt x3 0) (K f0_n f0_factorCount f0_invariantCount am41 am42 am43 am44 am45 am46 am47) (ev_multiply (fun f0_n_29 f0_factorCount_30 f0_invariantCount_31 am431_34 am432_37 am433_40 am434_43 am435_46 am436_49 am437_52 => ev_evaluate_49 K ih x2 x3 40 0 f0_n_29 f0_factorCount_30 f0_invariantCount_31 am431_34 am432_37 am433_40 am434_43 am435_46 am436_49 am437_52) f0_n f0_factorCount f0_invariantCount am41 am42 am43 am44 am45 am46 am47 1 1 4)) n
theorem eq_evaluate_34 (K : zq_K) (n x2 x3 f0_n f0_factorCount f0_invariantCount am41 am42 am43 am44 am45 am46 am47 : Nat) : ev_evaluate_34 K x2 (n + 1) x3 f0_n f0_factorCount f0_invariantCount am41 am42 am43 am44 am45 am46 am47 = (zq_if (zq_lt x3 0) (K f0_n f0_factorCount f0_invariantCount am41 am42 am43 am44 am45 am46 am47) (ev_multiply (fun f0_n_29 f0_factorCount_30 f0_invariantCount_31 am431_34 am432_37 am433_40 am434_43 am435_46 am436_49 am437_52 => ev_evaluate_49 K (ev_evaluate_34 K x2 n) x2 x3 40 0 f0_n_29 f0_factorCount_30 f0_invariantCount_31 am431_34 am432_37 am433_40 am434_43 am435_46 am436_49 am437_52) f0_n f0_factorCount f0_invariantCount am41 am42 am43 am44 am45 am46 am47 1 1 4)) := rfl
theorem sm_evaluate_34 {r : Nat} (hr : r < 4) {post : St2 → Prop} {K : zq_K} (hK : zq_H r K post) (x2 : Nat) : ∀ (n x3 f0_n f0_factorCount f0_invariantCount am41 am42 am43 am44 am45 am46 am47 : Nat) (am41f : Nat → Int32), zq_AE r am41f am41 → ev_evaluate_34 K x2 n x3 f0_n f0_factorCount f0_invariantCount am41 am42 am43 am44 am45 am46 am47 = true → wX_evaluate_34 post (nI x2) n (nI x3) (nI f0_n) (nI f0_factorCount) (nI f0_invariantCount) am41f (zq_ar am42) (zq_ar am43) (zq_ar am44) (zq_ar am45) (zq_ar am46) (zq_ar am47) := by
  intro n
  induction n with
  | zero =>
    intro x3 f0_n f0_factorCount f0_invariantCount am41 am42 am43 am44 am45 am46 am47 am41f am41h h
    exact absurd h Bool.false_ne_true
  | succ n ih =>
    intro x3 f0_n f0_factorCount f0_invariantCount am41 am42 am43 am44 am45 am46 am47 am41f am41h h
    rw [eq_evaluate_34] at h
    refine zf_if (zc_lt (Eq.refl (nI x3)) (show (0 : Int32) = nI 0 from rfl)) h (fun h => ?_) (fun h => ?_)
    · exact hK _ _ _ _ _ _ _ _ _ _ _ am41h h
    · refine sm_multiply hr am41h (show (4 : Int32) = nI (zq_pl r 1) from rfl) (show (4 : Int32) = nI (zq_pl r 1) from rfl) (show (7 : Int32) = nI (zq_pl r 4) from rfl) h (fun f0_n_29 f0_factorCount_30 f0_invariantCount_31 am431_34 am432_37 am433_40 am434_43 am435_46 am436_49 am437_52 am431_34f am431_34h h => ?_)
      refine ⟨40, ?_⟩
      exact sm_evaluate_49 hr (J34 := wX_evaluate_34 post (nI x2) n) (B_J34 := ev_evaluate_34 K x2 n) hK ih x2 x3 40 0 f0_n_29 f0_factorCount_30 f0_invariantCount_31 am431_34 am432_37 am433_40 am434_43 am435_46 am436_49 am437_52 am431_34f am431_34h h
noncomputable def ev_evaluate_9 (K : zq_K) (x2 f0_n f0_factorCount f0_invariantCount : Nat) (n : Nat) : Nat → Nat → Nat → Nat → Nat → Nat → Nat → Nat → Bool := @Nat.rec (fun _ => Nat → Nat → Nat → Nat → Nat → Nat → Nat → Nat → Bool) (fun _ _ _ _ _ _ _ _ => false) (fun _ ih => fun x3 am41 am42 am43 am44 am45 am46 am47 => zq_if (zq_le 16 x3) (ev_evaluate_34 K x2 40 9 f0_n f0_factorCount f0_invariantCount am41 am42 am43 am44 am45 am46 am47) (zq_ue am41 x3 0 (fun am41_86 => zq_fo (zq_add x3 1) (fun x3_87 => ih x3_87 am41_86 am42 am43 am44 am45 am46 am47)))) n
theorem eq_evaluate_9 (K : zq_K) (n x2 f0_n f0_factorCount f0_invariantCount x3 am41 am42 am43 am44 am45 am46 am47 : Nat) : ev_evaluate_9 K x2 f0_n f0_factorCount f0_invariantCount (n + 1) x3 am41 am42 am43 am44 am45 am46 am47 = (zq_if (zq_le 16 x3) (ev_evaluate_34 K x2 40 9 f0_n f0_factorCount f0_invariantCount am41 am42 am43 am44 am45 am46 am47) (zq_ue am41 x3 0 (fun am41_86 => zq_fo (zq_add x3 1) (fun x3_87 => (ev_evaluate_9 K x2 f0_n f0_factorCount f0_invariantCount n) x3_87 am41_86 am42 am43 am44 am45 am46 am47)))) := rfl
theorem sm_evaluate_9 {r : Nat} (hr : r < 4) {post : St2 → Prop} {K : zq_K} (hK : zq_H r K post) (x2 f0_n f0_factorCount f0_invariantCount : Nat) : ∀ (n x3 am41 am42 am43 am44 am45 am46 am47 : Nat) (am41f : Nat → Int32), zq_AE r am41f am41 → ev_evaluate_9 K x2 f0_n f0_factorCount f0_invariantCount n x3 am41 am42 am43 am44 am45 am46 am47 = true → wX_evaluate_9 post (nI x2) (nI f0_n) (nI f0_factorCount) (nI f0_invariantCount) n (nI x3) am41f (zq_ar am42) (zq_ar am43) (zq_ar am44) (zq_ar am45) (zq_ar am46) (zq_ar am47) := by
  intro n
  induction n with
  | zero =>
    intro x3 am41 am42 am43 am44 am45 am46 am47 am41f am41h h
    exact absurd h Bool.false_ne_true
  | succ n ih =>
    intro x3 am41 am42 am43 am44 am45 am46 am47 am41f am41h h
    rw [eq_evaluate_9] at h
    refine zf_if (zc_le (show (16 : Int32) = nI 16 from rfl) (Eq.refl (nI x3))) h (fun h => ?_) (fun h => ?_)
    · refine ⟨40, ?_⟩
      exact sm_evaluate_34 hr  hK x2 40 9 f0_n f0_factorCount f0_invariantCount am41 am42 am43 am44 am45 am46 am47 am41f am41h h
    · refine zf_ue hr am41h (Eq.refl (nI x3)) (show (0 : Int32) = nI 0 from rfl) h (fun am41_86f am41_86 am41_86h h => ?_)
      refine zf_nm (zt_add (Eq.refl (nI x3)) (show (1 : Int32) = nI 1 from rfl)) h (fun x3_87 h => ?_)
      exact ih x3_87 am41_86 am42 am43 am44 am45 am46 am47 am41_86f am41_86h h
noncomputable def ev_evaluate (K : zq_K) (f0_n f0_factorCount f0_invariantCount a1 a2 a3 a4 a5 a6 a7 p0 p1 : Nat) : Bool := ev_copy (fun f0_n_2 f0_factorCount_3 f0_invariantCount_4 am41_7 am42_10 am43_13 am44_16 am45_19 am46_22 am47_25 => ev_evaluate_9 K p1 f0_n_2 f0_factorCount_3 f0_invariantCount_4 40 0 am41_7 am42_10 am43_13 am44_16 am45_19 am46_22 am47_25) f0_n f0_factorCount f0_invariantCount a1 a2 a3 a4 a5 a6 a7 4 p0
theorem sm_evaluate {r : Nat} (hr : r < 4) {post : St2 → Prop} {K : zq_K} {f0_n f0_factorCount f0_invariantCount a1 a2 a3 a4 a5 a6 a7 p0 p1 : Nat} {a1f : Nat → Int32} {v_p0 v_p1 : Int32} (a1h : zq_AE r a1f a1) (e_p0 : v_p0 = nI (zq_pl r p0)) (e_p1 : v_p1 = nI p1) (h : ev_evaluate K f0_n f0_factorCount f0_invariantCount a1 a2 a3 a4 a5 a6 a7 p0 p1 = true) (hK : zq_H r K post) : wpX_evaluate post ((nI f0_n), (nI f0_factorCount), (nI f0_invariantCount), a1f, (zq_ar a2), (zq_ar a3), (zq_ar a4), (zq_ar a5), (zq_ar a6), (zq_ar a7)) v_p0 v_p1 := by
  subst e_p0 e_p1
  unfold ev_evaluate at h
  unfold wpX_evaluate
  dsimp only
  refine sm_copy hr a1h (show (7 : Int32) = nI (zq_pl r 4) from rfl) (Eq.refl (nI (zq_pl r p0))) h (fun f0_n_2 f0_factorCount_3 f0_invariantCount_4 am41_7 am42_10 am43_13 am44_16 am45_19 am46_22 am47_25 am41_7f am41_7h h => ?_)
  refine ⟨40, ?_⟩
  exact sm_evaluate_9 hr  hK p1 f0_n_2 f0_factorCount_3 f0_invariantCount_4 40 0 am41_7 am42_10 am43_13 am44_16 am45_19 am46_22 am47_25 am41_7f am41_7h h
noncomputable def ev_countBlocks_32 (K : zq_K) (x2 : Nat) (n : Nat) : Nat → Nat → Nat → Nat → Nat → Nat → Nat → Nat → Nat → Nat → Nat → Nat → Bool := @Nat.rec (fun _ => Nat → Nat → Nat → Nat → Nat → Nat → Nat → Nat → Nat → Nat → Nat → Nat → Bool) (fun _ _ _ _ _ _ _ _ _ _ _ _ => false) (fun _ ih => fun x3 x4 f0_n f0_factorCount f0_invariantCount am211 am212 am213 am214 am215 am216 am217 => zq_if (zq_le 4 x4) (K f0_n f0_factorCount f0_invariantCount am211 am212 am213 am214 am215 am216 am217) (ev_rankOf (fun r_78 f0_n_79 f0_factorCount_80 f0_invariantCount_81 am401_84 am402_87 am403_90 am404_93 am405_96 am406_99 am407_102 => zq_if (Nat.ble (Nat.succ x2) 4) (zq_if (zq_eq (zq_rd am404_93 (zq_cl x2)) 0) false (zq_if (Nat.ble (Nat.succ (zq_add (zq_mul 4 x2) x4)) 16) (zq_up am405_96 (zq_cl (zq_add (zq_mul 4 x2) x4)) (zq_b (zq_div (zq_sub x3 r_78) (zq_rd am404_93 (zq_cl x2)))) (fun am405_106 => ev_multiply (fun f0_n_108 f0_factorCount_109 f0_invariantCount_110 am761_113 am762_116 am763_119 am764_122 am765_125 am766_128 am767_131 => zq_fo (zq_add x4 1) (fun x4_132 => ih r_78 x4_132 f0_n_108 f0_factorCount_109 f0_invariantCount_110 am761_113 am762_116 am763_119 am764_122 am765_125 am766_128 am767_131)) f0_n_79 f0_factorCount_80 f0_invariantCount_81 am401_84 am402_87 am403_90 am404_93 am405_106 am406_99 am407_102 1 1 4)) false)) false) f0_n f0_factorCount f0_invariantCount am211 am212 am213 am214 am215 am216 am217 1)) n
theorem eq_countBlocks_32 (K : zq_K) (n x2 x3 x4 f0_n f0_factorCount f0_invariantCount am211 am212 am213 am214 am215 am216 am217 : Nat) : ev_countBlocks_32 K x2 (n + 1) x3 x4 f0_n f0_factorCount f0_invariantCount am211 am212 am213 am214 am215 am216 am217 = (zq_if (zq_le 4 x4) (K f0_n f0_factorCount f0_invariantCount am211 am212 am213 am214 am215 am216 am217) (ev_rankOf (fun r_78 f0_n_79 f0_factorCount_80 f0_invariantCount_81 am401_84 am402_87 am403_90 am404_93 am405_96 am406_99 am407_102 => zq_if (Nat.ble (Nat.succ x2) 4) (zq_if (zq_eq (zq_rd am404_93 (zq_cl x2)) 0) false (zq_if (Nat.ble (Nat.succ (zq_add (zq_mul 4 x2) x4)) 16) (zq_up am405_96 (zq_cl (zq_add (zq_mul 4 x2) x4)) (zq_b (zq_div (zq_sub x3 r_78) (zq_rd am404_93 (zq_cl x2)))) (fun am405_106 => ev_multiply (fun f0_n_108 f0_factorCount_109 f0_invariantCount_110 am761_113 am762_116 am763_119 am764_122 am765_125 am766_128 am767_131 => zq_fo (zq_add x4 1) (fun x4_132 => (ev_countBlocks_32 K x2 n) r_78 x4_132 f0_n_108 f0_factorCount_109 f0_invariantCount_110 am761_113 am762_116 am763_119 am764_122 am765_125 am766_128 am767_131)) f0_n_79 f0_factorCount_80 f0_invariantCount_81 am401_84 am402_87 am403_90 am404_93 am405_106 am406_99 am407_102 1 1 4)) false)) false) f0_n f0_factorCount f0_invariantCount am211 am212 am213 am214 am215 am216 am217 1)) := rfl
theorem sm_countBlocks_32 {r : Nat} (hr : r < 4) {post : St2 → Prop} {K : zq_K} (hK : zq_H r K post) (x2 : Nat) : ∀ (n x3 x4 f0_n f0_factorCount f0_invariantCount am211 am212 am213 am214 am215 am216 am217 : Nat) (am211f : Nat → Int32), zq_AE r am211f am211 → ev_countBlocks_32 K x2 n x3 x4 f0_n f0_factorCount f0_invariantCount am211 am212 am213 am214 am215 am216 am217 = true → wX_countBlocks_32 post (nI x2) n (nI x3) (nI x4) (nI f0_n) (nI f0_factorCount) (nI f0_invariantCount) am211f (zq_ar am212) (zq_ar am213) (zq_ar am214) (zq_ar am215) (zq_ar am216) (zq_ar am217) := by
  intro n
  induction n with
  | zero =>
    intro x3 x4 f0_n f0_factorCount f0_invariantCount am211 am212 am213 am214 am215 am216 am217 am211f am211h h
    exact absurd h Bool.false_ne_true
  | succ n ih =>
    intro x3 x4 f0_n f0_factorCount f0_invariantCount am211 am212 am213 am214 am215 am216 am217 am211f am211h h
    rw [eq_countBlocks_32] at h
    refine zf_if (zc_le (show (4 : Int32) = nI 4 from rfl) (Eq.refl (nI x4))) h (fun h => ?_) (fun h => ?_)
    · exact hK _ _ _ _ _ _ _ _ _ _ _ am211h h
    · refine sm_rankOf hr am211h (show (4 : Int32) = nI (zq_pl r 1) from rfl) h (fun q_v r_78 f0_n_79 f0_factorCount_80 f0_invariantCount_81 am401_84 am402_87 am403_90 am404_93 am405_96 am406_99 am407_102 am401_84f q_e am401_84h h => ?_)
      subst q_e
      refine zf_in (Eq.refl (nI x2)) (by decide) h (fun h => ?_)
      refine zf_ne (zt_rd (zt_cl (Eq.refl (nI x2)))) h (fun h => ?_)
      refine zf_in (zt_add (zt_mul (show (4 : Int32) = nI 4 from rfl) (Eq.refl (nI x2))) (Eq.refl (nI x4))) (by decide) h (fun h => ?_)
      refine zf_up (zt_cl (zt_add (zt_mul (show (4 : Int32) = nI 4 from rfl) (Eq.refl (nI x2))) (Eq.refl (nI x4)))) (zt_b (zt_div (zt_sub (Eq.refl (nI x3)) (Eq.refl (nI r_78))) (zt_rd (zt_cl (Eq.refl (nI x2)))))) h (fun am405_106 h => ?_)
      refine sm_multiply hr am401_84h (show (4 : Int32) = nI (zq_pl r 1) from rfl) (show (4 : Int32) = nI (zq_pl r 1) from rfl) (show (7 : Int32) = nI (zq_pl r 4) from rfl) h (fun f0_n_108 f0_factorCount_109 f0_invariantCount_110 am761_113 am762_116 am763_119 am764_122 am765_125 am766_128 am767_131 am761_113f am761_113h h => ?_)
      refine zf_nm (zt_add (Eq.refl (nI x4)) (show (1 : Int32) = nI 1 from rfl)) h (fun x4_132 h => ?_)
      exact ih r_78 x4_132 f0_n_108 f0_factorCount_109 f0_invariantCount_110 am761_113 am762_116 am763_119 am764_122 am765_125 am766_128 am767_131 am761_113f am761_113h h
noncomputable def ev_countBlocks (K : zq_K) (f0_n f0_factorCount f0_invariantCount a1 a2 a3 a4 a5 a6 a7 p0 p1 : Nat) : Bool := zq_if (Nat.ble (Nat.succ p1) 4) (zq_fo (zq_rd a3 (zq_cl p1)) (fun q0 => ev_load (fun f0_n_3 f0_factorCount_4 f0_invariantCount_5 am81_8 am82_11 am83_14 am84_17 am85_20 am86_23 am87_26 => ev_evaluate (fun f0_n_28 f0_factorCount_29 f0_invariantCount_30 am141_33 am142_36 am143_39 am144_42 am145_45 am146_48 am147_51 => ev_copy (fun f0_n_53 f0_factorCount_54 f0_invariantCount_55 am211_58 am212_61 am213_64 am214_67 am215_70 am216_73 am217_76 => ev_countBlocks_32 K p1 40 f0_n_53 0 f0_n_53 f0_factorCount_54 f0_invariantCount_55 am211_58 am212_61 am213_64 am214_67 am215_70 am216_73 am217_76) f0_n_28 f0_factorCount_29 f0_invariantCount_30 am141_33 am142_36 am143_39 am144_42 am145_45 am146_48 am147_51 4 1) f0_n_3 f0_factorCount_4 f0_invariantCount_5 am81_8 am82_11 am83_14 am84_17 am85_20 am86_23 am87_26 p0 1) f0_n f0_factorCount f0_invariantCount a1 a2 a3 a4 a5 a6 a7 1 q0)) false
theorem sm_countBlocks {r : Nat} (hr : r < 4) {post : St2 → Prop} {K : zq_K} {f0_n f0_factorCount f0_invariantCount a1 a2 a3 a4 a5 a6 a7 p0 p1 : Nat} {a1f : Nat → Int32} {v_p0 v_p1 : Int32} (a1h : zq_AE r a1f a1) (e_p0 : v_p0 = nI (zq_pl r p0)) (e_p1 : v_p1 = nI p1) (h : ev_countBlocks K f0_n f0_factorCount f0_invariantCount a1 a2 a3 a4 a5 a6 a7 p0 p1 = true) (hK : zq_H r K post) : wpX_countBlocks post ((nI f0_n), (nI f0_factorCount), (nI f0_invariantCount), a1f, (zq_ar a2), (zq_ar a3), (zq_ar a4), (zq_ar a5), (zq_ar a6), (zq_ar a7)) v_p0 v_p1 := by
  subst e_p0 e_p1
  unfold ev_countBlocks at h
  unfold wpX_countBlocks
  dsimp only
  refine zf_in (Eq.refl (nI p1)) (by decide) h (fun h => ?_)
  have h := zq_fo_t h
  refine sm_load hr a1h (show (1 : Int32) = nI 1 from rfl) (zt_rd (zt_cl (Eq.refl (nI p1)))) h (fun f0_n_3 f0_factorCount_4 f0_invariantCount_5 am81_8 am82_11 am83_14 am84_17 am85_20 am86_23 am87_26 am81_8f am81_8h h => ?_)
  refine sm_evaluate hr am81_8h (Eq.refl (nI (zq_pl r p0))) (show (1 : Int32) = nI 1 from rfl) h (fun f0_n_28 f0_factorCount_29 f0_invariantCount_30 am141_33 am142_36 am143_39 am144_42 am145_45 am146_48 am147_51 am141_33f am141_33h h => ?_)
  refine sm_copy hr am141_33h (show (7 : Int32) = nI (zq_pl r 4) from rfl) (show (4 : Int32) = nI (zq_pl r 1) from rfl) h (fun f0_n_53 f0_factorCount_54 f0_invariantCount_55 am211_58 am212_61 am213_64 am214_67 am215_70 am216_73 am217_76 am211_58f am211_58h h => ?_)
  refine ⟨40, ?_⟩
  exact sm_countBlocks_32 hr  hK p1 40 f0_n_53 0 f0_n_53 f0_factorCount_54 f0_invariantCount_55 am211_58 am212_61 am213_64 am214_67 am215_70 am216_73 am217_76 am211_58f am211_58h h
noncomputable def ev_analyse_18 (K : zq_K) (x1 : Nat) (n : Nat) : Nat → Nat → Nat → Nat → Nat → Nat → Nat → Nat → Nat → Nat → Nat → Bool := @Nat.rec (fun _ => Nat → Nat → Nat → Nat → Nat → Nat → Nat → Nat → Nat → Nat → Nat → Bool) (fun _ _ _ _ _ _ _ _ _ _ _ => false) (fun _ ih => fun x3 f0_n f0_factorCount f0_invariantCount am131 am132 am133 am134 am135 am136 am137 => zq_if (zq_le f0_factorCount x3) (ev_buildInvariants (fun f0_n_78 f0_factorCount_79 f0_invariantCount_80 am391_83 am392_86 am393_89 am394_92 am395_95 am396_98 am397_101 => K f0_n_78 f0_factorCount_79 f0_invariantCount_80 am391_83 am392_86 am393_89 am394_92 am395_95 am396_98 am397_101) f0_n f0_factorCount f0_invariantCount am131 am132 am133 am134 am135 am136 am137) (ev_countBlocks (fun f0_n_103 f0_factorCount_104 f0_invariantCount_105 am291_108 am292_111 am293_114 am294_117 am295_120 am296_123 am297_126 => zq_fo (zq_add x3 1) (fun x3_127 => ih x3_127 f0_n_103 f0_factorCount_104 f0_invariantCount_105 am291_108 am292_111 am293_114 am294_117 am295_120 am296_123 am297_126)) f0_n f0_factorCount f0_invariantCount am131 am132 am133 am134 am135 am136 am137 x1 x3)) n
theorem eq_analyse_18 (K : zq_K) (n x1 x3 f0_n f0_factorCount f0_invariantCount am131 am132 am133 am134 am135 am136 am137 : Nat) : ev_analyse_18 K x1 (n + 1) x3 f0_n f0_factorCount f0_invariantCount am131 am132 am133 am134 am135 am136 am137 = (zq_if (zq_le f0_factorCount x3) (ev_buildInvariants (fun f0_n_78 f0_factorCount_79 f0_invariantCount_80 am391_83 am392_86 am393_89 am394_92 am395_95 am396_98 am397_101 => K f0_n_78 f0_factorCount_79 f0_invariantCount_80 am391_83 am392_86 am393_89 am394_92 am395_95 am396_98 am397_101) f0_n f0_factorCount f0_invariantCount am131 am132 am133 am134 am135 am136 am137) (ev_countBlocks (fun f0_n_103 f0_factorCount_104 f0_invariantCount_105 am291_108 am292_111 am293_114 am294_117 am295_120 am296_123 am297_126 => zq_fo (zq_add x3 1) (fun x3_127 => (ev_analyse_18 K x1 n) x3_127 f0_n_103 f0_factorCount_104 f0_invariantCount_105 am291_108 am292_111 am293_114 am294_117 am295_120 am296_123 am297_126)) f0_n f0_factorCount f0_invariantCount am131 am132 am133 am134 am135 am136 am137 x1 x3)) := rfl
theorem sm_analyse_18 {r : Nat} (hr : r < 4) {post : St2 → Prop} {K : zq_K} (hK : zq_H r K post) (x1 : Nat) : ∀ (n x3 f0_n f0_factorCount f0_invariantCount am131 am132 am133 am134 am135 am136 am137 : Nat) (am131f : Nat → Int32), zq_AE r am131f am131 → ev_analyse_18 K x1 n x3 f0_n f0_factorCount f0_invariantCount am131 am132 am133 am134 am135 am136 am137 = true → wX_analyse_18 post (nI (zq_pl r x1)) n (nI x3) (nI f0_n) (nI f0_factorCount) (nI f0_invariantCount) am131f (zq_ar am132) (zq_ar am133) (zq_ar am134) (zq_ar am135) (zq_ar am136) (zq_ar am137) := by
  intro n
  induction n with
  | zero =>
    intro x3 f0_n f0_factorCount f0_invariantCount am131 am132 am133 am134 am135 am136 am137 am131f am131h h
    exact absurd h Bool.false_ne_true
  | succ n ih =>
    intro x3 f0_n f0_factorCount f0_invariantCount am131 am132 am133 am134 am135 am136 am137 am131f am131h h
    rw [eq_analyse_18] at h
    refine zf_if (zc_le (Eq.refl (nI f0_factorCount)) (Eq.refl (nI x3))) h (fun h => ?_) (fun h => ?_)
    · refine sm_buildInvariants hr am131h  h (fun f0_n_78 f0_factorCount_79 f0_invariantCount_80 am391_83 am392_86 am393_89 am394_92 am395_95 am396_98 am397_101 am391_83f am391_83h h => ?_)
      exact hK _ _ _ _ _ _ _ _ _ _ _ am391_83h h
    · refine sm_countBlocks hr am131h (Eq.refl (nI (zq_pl r x1))) (Eq.refl (nI x3)) h (fun f0_n_103 f0_factorCount_104 f0_invariantCount_105 am291_108 am292_111 am293_114 am294_117 am295_120 am296_123 am297_126 am291_108f am291_108h h => ?_)
      refine zf_nm (zt_add (Eq.refl (nI x3)) (show (1 : Int32) = nI 1 from rfl)) h (fun x3_127 h => ?_)
      exact ih x3_127 f0_n_103 f0_factorCount_104 f0_invariantCount_105 am291_108 am292_111 am293_114 am294_117 am295_120 am296_123 am297_126 am291_108f am291_108h h
noncomputable def ev_analyse (K : zq_K) (f0_n f0_factorCount f0_invariantCount a1 a2 a3 a4 a5 a6 a7 p0 : Nat) : Bool := ev_characteristicOf (fun r_1 f0_n_2 f0_factorCount_3 f0_invariantCount_4 am21_7 am22_10 am23_13 am24_16 am25_19 am26_22 am27_25 => ev_load (fun f0_n_27 f0_factorCount_28 f0_invariantCount_29 am91_32 am92_35 am93_38 am94_41 am95_44 am96_47 am97_50 => ev_findFactors (fun f0_n_52 f0_factorCount_53 f0_invariantCount_54 am131_57 am132_60 am133_63 am134_66 am135_69 am136_72 am137_75 => ev_analyse_18 K p0 40 0 f0_n_52 f0_factorCount_53 f0_invariantCount_54 am131_57 am132_60 am133_63 am134_66 am135_69 am136_72 am137_75) f0_n_27 f0_factorCount_28 f0_invariantCount_29 am91_32 am92_35 am93_38 am94_41 am95_44 am96_47 am97_50) f0_n_2 f0_factorCount_3 f0_invariantCount_4 am21_7 am22_10 am23_13 am24_16 am25_19 am26_22 am27_25 0 r_1) f0_n f0_factorCount f0_invariantCount a1 a2 a3 a4 a5 a6 a7 p0
theorem sm_analyse {r : Nat} (hr : r < 4) {post : St2 → Prop} {K : zq_K} {f0_n f0_factorCount f0_invariantCount a1 a2 a3 a4 a5 a6 a7 p0 : Nat} {a1f : Nat → Int32} {v_p0 : Int32} (a1h : zq_AE r a1f a1) (e_p0 : v_p0 = nI (zq_pl r p0)) (h : ev_analyse K f0_n f0_factorCount f0_invariantCount a1 a2 a3 a4 a5 a6 a7 p0 = true) (hK : zq_H r K post) : wpX_analyse post ((nI f0_n), (nI f0_factorCount), (nI f0_invariantCount), a1f, (zq_ar a2), (zq_ar a3), (zq_ar a4), (zq_ar a5), (zq_ar a6), (zq_ar a7)) v_p0 := by
  subst e_p0
  unfold ev_analyse at h
  unfold wpX_analyse
  dsimp only
  refine sm_characteristicOf hr a1h (Eq.refl (nI (zq_pl r p0))) h (fun q_v r_1 f0_n_2 f0_factorCount_3 f0_invariantCount_4 am21_7 am22_10 am23_13 am24_16 am25_19 am26_22 am27_25 am21_7f q_e am21_7h h => ?_)
  subst q_e
  refine sm_load hr am21_7h (show (0 : Int32) = nI 0 from rfl) (Eq.refl (nI r_1)) h (fun f0_n_27 f0_factorCount_28 f0_invariantCount_29 am91_32 am92_35 am93_38 am94_41 am95_44 am96_47 am97_50 am91_32f am91_32h h => ?_)
  refine sm_findFactors hr am91_32h  h (fun f0_n_52 f0_factorCount_53 f0_invariantCount_54 am131_57 am132_60 am133_63 am134_66 am135_69 am136_72 am137_75 am131_57f am131_57h h => ?_)
  refine ⟨40, ?_⟩
  exact sm_analyse_18 hr  hK p0 40 0 f0_n_52 f0_factorCount_53 f0_invariantCount_54 am131_57 am132_60 am133_63 am134_66 am135_69 am136_72 am137_75 am131_57f am131_57h h
noncomputable def ev_diagonal_17 (K : Nat → zq_K) (f0_n f0_factorCount f0_invariantCount am121 am122 am123 am124 am125 am126 am127 : Nat) (n : Nat) : Nat → Bool := @Nat.rec (fun _ => Nat → Bool) (fun _ => false) (fun _ ih => fun x2 => zq_if (zq_le f0_factorCount x2) (K 1 f0_n f0_factorCount f0_invariantCount am121 am122 am123 am124 am125 am126 am127) (zq_if (Nat.ble (Nat.succ x2) 4) (zq_if (zq_lt 1 (zq_rd am124 (zq_cl x2))) (K 0 f0_n f0_factorCount f0_invariantCount am121 am122 am123 am124 am125 am126 am127) (zq_if (Nat.ble (Nat.succ (zq_add (zq_mul 4 x2) 1)) 16) (zq_if (zq_le (zq_rd am125 (zq_cl (zq_add (zq_mul 4 x2) 1))) 0) (zq_fo (zq_add x2 1) (fun x2_33 => ih x2_33)) (K 0 f0_n f0_factorCount f0_invariantCount am121 am122 am123 am124 am125 am126 am127)) false)) false)) n
theorem eq_diagonal_17 (K : Nat → zq_K) (n f0_n f0_factorCount f0_invariantCount am121 am122 am123 am124 am125 am126 am127 x2 : Nat) : ev_diagonal_17 K f0_n f0_factorCount f0_invariantCount am121 am122 am123 am124 am125 am126 am127 (n + 1) x2 = (zq_if (zq_le f0_factorCount x2) (K 1 f0_n f0_factorCount f0_invariantCount am121 am122 am123 am124 am125 am126 am127) (zq_if (Nat.ble (Nat.succ x2) 4) (zq_if (zq_lt 1 (zq_rd am124 (zq_cl x2))) (K 0 f0_n f0_factorCount f0_invariantCount am121 am122 am123 am124 am125 am126 am127) (zq_if (Nat.ble (Nat.succ (zq_add (zq_mul 4 x2) 1)) 16) (zq_if (zq_le (zq_rd am125 (zq_cl (zq_add (zq_mul 4 x2) 1))) 0) (zq_fo (zq_add x2 1) (fun x2_33 => (ev_diagonal_17 K f0_n f0_factorCount f0_invariantCount am121 am122 am123 am124 am125 am126 am127 n) x2_33)) (K 0 f0_n f0_factorCount f0_invariantCount am121 am122 am123 am124 am125 am126 am127)) false)) false)) := rfl
theorem sm_diagonal_17 {r : Nat} (hr : r < 4) {post : Int32 → St2 → Prop} {K : Nat → zq_K} (hK : zq_HW r K post) (f0_n f0_factorCount f0_invariantCount am121 am122 am123 am124 am125 am126 am127 : Nat) (am121f : Nat → Int32) (am121h : zq_AE r am121f am121) : ∀ (n x2 : Nat), ev_diagonal_17 K f0_n f0_factorCount f0_invariantCount am121 am122 am123 am124 am125 am126 am127 n x2 = true → wX_diagonal_17 post (nI f0_n) (nI f0_factorCount) (nI f0_invariantCount) am121f (zq_ar am122) (zq_ar am123) (zq_ar am124) (zq_ar am125) (zq_ar am126) (zq_ar am127) n (nI x2) := by
  intro n
  induction n with
  | zero =>
    intro x2 h
    exact absurd h Bool.false_ne_true
  | succ n ih =>
    intro x2 h
    rw [eq_diagonal_17] at h
    refine zf_if (zc_le (Eq.refl (nI f0_factorCount)) (Eq.refl (nI x2))) h (fun h => ?_) (fun h => ?_)
    · exact hK _ _ _ _ _ _ _ _ _ _ _ _ _ (show (1 : Int32) = nI 1 from rfl) am121h h
    · refine zf_in (Eq.refl (nI x2)) (by decide) h (fun h => ?_)
      refine zf_if (zc_lt (show (1 : Int32) = nI 1 from rfl) (zt_rd (zt_cl (Eq.refl (nI x2))))) h (fun h => ?_) (fun h => ?_)
      · exact hK _ _ _ _ _ _ _ _ _ _ _ _ _ (show (0 : Int32) = nI 0 from rfl) am121h h
      · refine zf_in (zt_add (zt_mul (show (4 : Int32) = nI 4 from rfl) (Eq.refl (nI x2))) (show (1 : Int32) = nI 1 from rfl)) (by decide) h (fun h => ?_)
        refine zf_if (zc_le (zt_rd (zt_cl (zt_add (zt_mul (show (4 : Int32) = nI 4 from rfl) (Eq.refl (nI x2))) (show (1 : Int32) = nI 1 from rfl)))) (show (0 : Int32) = nI 0 from rfl)) h (fun h => ?_) (fun h => ?_)
        · refine zf_nm (zt_add (Eq.refl (nI x2)) (show (1 : Int32) = nI 1 from rfl)) h (fun x2_33 h => ?_)
          exact ih x2_33 h
        · exact hK _ _ _ _ _ _ _ _ _ _ _ _ _ (show (0 : Int32) = nI 0 from rfl) am121h h
end
section
/-- the digit 5 at eighty places -/
noncomputable def zq_55 : Nat := Nat.mul 5 (Nat.div (Nat.sub (Nat.pow 65536 80) 1) 65535)
/-- the work places are forgotten: their digits become 5 -/
noncomputable def zq_wk (A : Nat) : Nat := Nat.add (Nat.mul 115792089237316195423570985008687907853269984665640564039457584007913129639936 zq_55) (Nat.mod A 115792089237316195423570985008687907853269984665640564039457584007913129639936)
/-- the entries with one value at a cell of the register, all else 0 -/
noncomputable def ck_A (n t v : Nat) : Nat := zq_wr 0 (Nat.add (Nat.mul 4 (Nat.div t n)) (Nat.mod t n)) v
/-! what the law wants -/
noncomputable def ck_mid (n t v : Nat) : Bool := zq_if (Nat.beq v 0) false (Nat.beq (Nat.mod t (Nat.succ n)) 0)
noncomputable def ck_det (n v : Nat) : Nat := zq_in (Nat.beq n 1) v 0
noncomputable def ck_eig (n t v w : Nat) : Nat := zq_in (Nat.beq w 0) (zq_in (Nat.beq v 0) n (Nat.sub n 1)) (zq_in (ck_mid n t v) (zq_in (Nat.beq w v) 1 0) 0)
noncomputable def ck_dia (n t v : Nat) : Nat := zq_in (Nat.beq v 0) 1 (zq_in (ck_mid n t v) 1 0)
/-- what determinant makes of the characteristic polynomial's number -/
noncomputable def ck_dv (n c : Nat) : Nat := zq_in (Nat.beq (Nat.mod n 2) 0) (Nat.mod c 5) (Nat.mod (Nat.sub 5 (Nat.mod c 5)) 5)
/-! the three runs -/
noncomputable def ck_D (n t v : Nat) : zq_K := fun N FC IC A1 A2 A3 A4 A5 A6 A7 => ev_analyse (fun N1 FC1 IC1 B1 B2 B3 B4 B5 B6 B7 => ev_diagonal_17 (fun d _ _ _ _ _ _ _ _ _ _ => Nat.beq d (ck_dia n t v)) N1 FC1 IC1 B1 B2 B3 B4 B5 B6 B7 40 0) N FC IC (zq_wk A1) A2 A3 A4 A5 A6 A7 0
noncomputable def ck_F (n t v w N FC IC A1 A2 A3 A4 A5 A6 A7 : Nat) : Nat → zq_K := fun e N1 FC1 IC1 B1 B2 B3 B4 B5 B6 B7 => zq_if (Nat.beq e (ck_eig n t v w)) (zq_if (Nat.beq N1 N) (zq_if (Nat.beq FC1 FC) (zq_if (Nat.beq IC1 IC) (zq_if (Nat.beq (zq_wk B1) (zq_wk A1)) (zq_if (Nat.beq B2 A2) (zq_if (Nat.beq B3 A3) (zq_if (Nat.beq B4 A4) (zq_if (Nat.beq B5 A5) (zq_if (Nat.beq B6 A6) (Nat.beq B7 A7) false) false) false) false) false) false) false) false) false) false
noncomputable def ck_E (n t v w : Nat) : zq_K := fun N FC IC A1 A2 A3 A4 A5 A6 A7 => ev_copy (fun N1 FC1 IC1 B1 B2 B3 B4 B5 B6 B7 => ev_eigen_28 (ck_F n t v w N FC IC A1 A2 A3 A4 A5 A6 A7) 0 w 40 0 N1 FC1 IC1 B1 B2 B3 B4 B5 B6 B7) N FC IC A1 A2 A3 A4 A5 A6 A7 4 0
noncomputable def ck_R (n t v : Nat) : zq_K := fun N FC IC A1 A2 A3 A4 A5 A6 A7 => zq_if (ck_E n t v 0 N FC IC A1 A2 A3 A4 A5 A6 A7) (zq_if (ck_E n t v 1 N FC IC A1 A2 A3 A4 A5 A6 A7) (zq_if (ck_E n t v 2 N FC IC A1 A2 A3 A4 A5 A6 A7) (zq_if (ck_E n t v 3 N FC IC A1 A2 A3 A4 A5 A6 A7) (zq_if (ck_E n t v 4 N FC IC A1 A2 A3 A4 A5 A6 A7) (ck_D n t v N FC IC A1 A2 A3 A4 A5 A6 A7) false) false) false) false) false
noncomputable def ck_C (n t v : Nat) : Nat → zq_K := fun c N FC IC A1 A2 A3 A4 A5 A6 A7 => zq_if (Nat.ble c 2147483647) (zq_if (Nat.beq (ck_dv n c) (ck_det n v)) (zq_if (Nat.beq N n) (ck_R n t v N FC IC A1 A2 A3 A4 A5 A6 A7) false) false) false
/-- all of it, from a state behind 'set' on -/
noncomputable def ck_S (n t v : Nat) : zq_K := fun N FC IC A1 A2 A3 A4 A5 A6 A7 => ev_characteristicOf (ck_C n t v) N FC IC A1 A2 A3 A4 A5 A6 A7 0
noncomputable def ck_run (n t v : Nat) : Bool := ck_S n t v n 0 0 (ck_A n t v) 0 0 0 0 0 0
end
section
theorem ck_1 : ∀ t, t < 1 → ∀ v, v < 5 → ck_run 1 t v = true := by decide +kernel
theorem ck_2 : ∀ t, t < 4 → ∀ v, v < 5 → ck_run 2 t v = true := by decide +kernel
theorem ck_3 : ∀ t, t < 9 → ∀ v, v < 5 → ck_run 3 t v = true := by decide +kernel
end
section
theorem ck_4a : ∀ t, t < 4 → ∀ v, v < 5 → ck_run 4 t v = true := by decide +kernel
theorem ck_4b : ∀ t, t < 4 → ∀ v, v < 5 → ck_run 4 (Nat.add 4 t) v = true := by decide +kernel
theorem ck_4c : ∀ t, t < 4 → ∀ v, v < 5 → ck_run 4 (Nat.add 8 t) v = true := by decide +kernel
theorem ck_4d : ∀ t, t < 4 → ∀ v, v < 5 → ck_run 4 (Nat.add 12 t) v = true := by decide +kernel
end
section
/-! from runs to the predicates of determinant, eigen, diagonal -/
def zq_G (r : Nat) (K : zq_K) (u : St2) : Prop := ∃ (n fc ic a1 a2 a3 a4 a5 a6 a7 : Nat) (a : Nat → Int32), zq_AE r a a1 ∧ K n fc ic a1 a2 a3 a4 a5 a6 a7 = true ∧ u = (nI n, nI fc, nI ic, a, zq_ar a2, zq_ar a3, zq_ar a4, zq_ar a5, zq_ar a6, zq_ar a7)
theorem zq_G_of {r : Nat} {K : zq_K} {n fc ic a1 a2 a3 a4 a5 a6 a7 : Nat} {a : Nat → Int32} (ha : zq_AE r a a1) (h : K n fc ic a1 a2 a3 a4 a5 a6 a7 = true) : zq_G r K (nI n, nI fc, nI ic, a, zq_ar a2, zq_ar a3, zq_ar a4, zq_ar a5, zq_ar a6, zq_ar a7) := ⟨n, fc, ic, a1, a2, a3, a4, a5, a6, a7, a, ha, h, rfl⟩
theorem zq_G_el {r : Nat} {K : zq_K} {post : St2 → Prop} {u : St2} (h : zq_G r K u) (H : zq_H r K post) : post u := by
  obtain ⟨n, fc, ic, a1, a2, a3, a4, a5, a6, a7, a, ha, hk, e⟩ := h
  rw [e]
  exact H n fc ic a1 a2 a3 a4 a5 a6 a7 a ha hk
theorem zq_be {a b : Nat} (h : Nat.beq a b = true) : a = b := Nat.eq_of_beq_eq_true h
/-! forgetting -/
theorem zq_55_rd : ∀ k, k < 80 → zq_rd zq_55 k = 5 := by decide +kernel
theorem zq_wk_bit (A j : Nat) : (zq_wk A).testBit j = if j < 256 then A.testBit j else zq_55.testBit (j - 256) := by
  have h : zq_wk A = 2 ^ 256 * zq_55 + A % 2 ^ 256 := rfl
  rw [h, Nat.testBit_two_pow_mul_add _ (Nat.mod_lt _ (Nat.two_pow_pos 256))]
  by_cases hj : j < 256
  · rw [if_pos hj, if_pos hj, Nat.testBit_mod_two_pow]
    simp [hj]
  · rw [if_neg hj, if_neg hj]
theorem zq_wk_lo (A k : Nat) (hk : k < 16) : zq_rd (zq_wk A) k = zq_rd A k := by
  apply Nat.eq_of_testBit_eq
  intro i
  rw [zq_rd_bit, zq_rd_bit, zq_wk_bit]
  by_cases hi : i < 16
  · rw [if_pos (by omega)]
  · simp [hi]
theorem zq_wk_hi (A k : Nat) (h1 : 16 ≤ k) (h2 : k < 96) : zq_rd (zq_wk A) k = 5 := by
  rw [← zq_55_rd (k - 16) (by omega)]
  apply Nat.eq_of_testBit_eq
  intro i
  rw [zq_rd_bit, zq_rd_bit, zq_wk_bit]
  by_cases hi : i < 16
  · rw [if_neg (by omega), show 16 * k + i - 256 = 16 * (k - 16) + i by omega]
  · simp [hi]
theorem zq_wk_AE {r : Nat} {a : Nat → Int32} {A : Nat} (h : zq_AE r a A) : zq_AE r a (zq_wk A) := by
  intro k hk hd
  by_cases e : k < 16
  · rw [zq_wk_lo A k e] at hd ⊢
    exact h k hk hd
  · rw [zq_wk_hi A k (by omega) hk] at hd
    exact absurd hd (by decide)
/-! the methods -/
theorem ly_reg {r : Nat} (hr : r < 4) {post : Int32 → Prop} {u : St2} (h : post 1) : wpX_isRegister post u (nI r) := by
  obtain ⟨n, fc, ic, a1, a2, a3, a4, a5, a6, a7⟩ := u
  exact br_f (nI_pos (by omega)) (br_f (nI_nlt (a := 3) (by omega) (by decide)) h)
theorem ly_nreg {x : Int32} (hx : x < 0 ∨ 3 < x) {post : Int32 → Prop} {u : St2} (h : post 0) : wpX_isRegister post u x := by
  obtain ⟨n, fc, ic, a1, a2, a3, a4, a5, a6, a7⟩ := u
  exact br_c (fun _ => h) (fun g => br_t (hx.resolve_left g) h)
theorem ly_r5 : ∀ m, m < 5 → (0 ≤ -nI m - -nI m / 5 * 5 → -nI m - -nI m / 5 * 5 = nI ((5 - m) % 5)) ∧ (¬ 0 ≤ -nI m - -nI m / 5 * 5 → -nI m - -nI m / 5 * 5 + 5 = nI ((5 - m) % 5)) := by decide +kernel
theorem ly_rest {m : Nat} (hm : m < 5) {post : Int32 → Prop} {u : St2} (h : post (nI ((5 - m) % 5))) : wpX_rest post u (-nI m) := by
  obtain ⟨n, fc, ic, a1, a2, a3, a4, a5, a6, a7⟩ := u
  refine zf_5 (fun x hx => ?_)
  subst hx
  exact br_c (fun g => by rw [(ly_r5 m hm).1 g]; exact h) (fun g => by rw [(ly_r5 m hm).2 g]; exact h)
theorem ly_par : ∀ n, n < 5 → (nI n &&& 1 = 0 ↔ Nat.beq (Nat.mod n 2) 0 = true) := by decide +kernel
theorem ly_det {r : Nat} (hr : r < 4) {n t v : Nat} (hn : n < 5) {post : Int32 → St2 → Prop} {u : St2} (hG : zq_G r (ck_S n t v) u) (H : ∀ u', zq_G r (ck_R n t v) u' → post (nI (ck_det n v)) u') : wpX_determinant post u (nI r) := by
  refine zq_G_el (post := fun u => wpX_determinant post u (nI r)) hG (fun N FC IC A1 A2 A3 A4 A5 A6 A7 a ha h => ?_)
  unfold wpX_determinant
  dsimp only
  refine ly_reg hr (br_f (by decide) ?_)
  refine sm_characteristicOf hr ha (show nI r = nI (zq_pl r 0) from rfl) h (fun q c N FC IC A1 A2 A3 A4 A5 A6 A7 a e ha h => ?_)
  obtain ⟨h1, h⟩ := zq_if_a (c := Nat.ble c 2147483647) h
  obtain ⟨h2, h⟩ := zq_if_a h
  obtain ⟨h3, h⟩ := zq_if_a h
  have g1 := zq_bl h1
  have g2 := zq_be h2
  have g3 := zq_be h3
  subst g3
  subst e
  have P := H _ (zq_G_of ha h)
  rw [← g2] at P
  refine zf_5 (fun x hx => ?_)
  have hx' : x = nI (c % 5) := hx.trans (pk_rem (by omega) (by decide) (by decide))
  subst hx'
  cases hb : Nat.beq (Nat.mod N 2) 0 with
  | true =>
    have E : ck_dv N c = c % 5 := by unfold ck_dv; rw [hb]; rfl
    rw [E] at P
    exact br_t ((ly_par N hn).mpr hb) P
  | false =>
    have E : ck_dv N c = (5 - c % 5) % 5 := by unfold ck_dv; rw [hb]; rfl
    rw [E] at P
    refine br_f (fun z => ?_) (ly_rest (Nat.mod_lt _ (by decide)) P)
    rw [(ly_par N hn).mp z] at hb
    exact absurd hb.symm Bool.false_ne_true
theorem ly_eig {r : Nat} (hr : r < 4) {n t v w : Nat} (hw : w ≤ 4) {post : Int32 → St2 → Prop} {u : St2} (hG : zq_G r (ck_R n t v) u) (H : ∀ u', zq_G r (ck_D n t v) u' → post (nI (ck_eig n t v w)) u') : wpX_eigen post u (nI r) (nI w) := by
  refine zq_G_el (post := fun u => wpX_eigen post u (nI r) (nI w)) hG (fun N FC IC A1 A2 A3 A4 A5 A6 A7 a ha h => ?_)
  obtain ⟨h0, h⟩ := zq_if_a (c := ck_E n t v 0 N FC IC A1 A2 A3 A4 A5 A6 A7) h
  obtain ⟨h1, h⟩ := zq_if_a h
  obtain ⟨h2, h⟩ := zq_if_a h
  obtain ⟨h3, h⟩ := zq_if_a h
  obtain ⟨h4, hD⟩ := zq_if_a h
  have hE : ck_E n t v w N FC IC A1 A2 A3 A4 A5 A6 A7 = true := by
    match w, hw with
    | 0, _ => exact h0
    | 1, _ => exact h1
    | 2, _ => exact h2
    | 3, _ => exact h3
    | 4, _ => exact h4
  unfold wpX_eigen
  dsimp only
  refine ly_reg hr (br_f (by decide) (br_f (nI_pos (by omega)) (br_t (nI_le (b := 4) hw (by decide)) ?_)))
  refine sm_copy hr ha (show (7 : Int32) = nI (zq_pl r 4) from rfl) (show nI r = nI (zq_pl r 0) from rfl) hE (fun N1 FC1 IC1 B1 B2 B3 B4 B5 B6 B7 b hb h => ?_)
  refine ⟨40, sm_eigen_28 hr (K := ck_F n t v w N FC IC A1 A2 A3 A4 A5 A6 A7) (post := post) (fun q e N1 FC1 IC1 B1 B2 B3 B4 B5 B6 B7 b ee hb h => ?_) 0 w 40 0 N1 FC1 IC1 B1 B2 B3 B4 B5 B6 B7 b hb h⟩
  obtain ⟨k0, h⟩ := zq_if_a (c := Nat.beq e (ck_eig n t v w)) h
  obtain ⟨k1, h⟩ := zq_if_a h
  obtain ⟨k2, h⟩ := zq_if_a h
  obtain ⟨k3, h⟩ := zq_if_a h
  obtain ⟨k4, h⟩ := zq_if_a h
  obtain ⟨k5, h⟩ := zq_if_a h
  obtain ⟨k6, h⟩ := zq_if_a h
  obtain ⟨k7, h⟩ := zq_if_a h
  obtain ⟨k8, h⟩ := zq_if_a h
  obtain ⟨k9, h⟩ := zq_if_a h
  rw [ee, zq_be k0]
  refine H _ (zq_G_of hb ?_)
  rw [zq_be k1, zq_be k2, zq_be k3, zq_be k5, zq_be k6, zq_be k7, zq_be k8, zq_be k9, zq_be h]
  unfold ck_D
  rw [zq_be k4]
  exact hD
theorem ly_eigx {r : Nat} (hr : r < 4) {x : Int32} (hx : x < 0 ∨ ¬ x ≤ 4) {post : Int32 → St2 → Prop} {u : St2} (H : post (-1) u) : wpX_eigen post u (nI r) x := by
  obtain ⟨n, fc, ic, a1, a2, a3, a4, a5, a6, a7⟩ := u
  unfold wpX_eigen
  dsimp only
  exact ly_reg hr (br_f (by decide) (br_c (fun _ => H) (fun g => br_f (hx.resolve_left g) H)))
theorem ly_RD {r n t v : Nat} {u : St2} (h : zq_G r (ck_R n t v) u) : zq_G r (ck_D n t v) u := by
  obtain ⟨N, FC, IC, A1, A2, A3, A4, A5, A6, A7, a, ha, h, e⟩ := h
  refine ⟨N, FC, IC, A1, A2, A3, A4, A5, A6, A7, a, ha, ?_, e⟩
  obtain ⟨h0, h⟩ := zq_if_a (c := ck_E n t v 0 N FC IC A1 A2 A3 A4 A5 A6 A7) h
  obtain ⟨h1, h⟩ := zq_if_a h
  obtain ⟨h2, h⟩ := zq_if_a h
  obtain ⟨h3, h⟩ := zq_if_a h
  obtain ⟨h4, hD⟩ := zq_if_a h
  exact hD
theorem ly_dia {r : Nat} (hr : r < 4) {n t v : Nat} {post : Int32 → St2 → Prop} {u : St2} (hG : zq_G r (ck_D n t v) u) (H : ∀ u', post (nI (ck_dia n t v)) u') : wpX_diagonal post u (nI r) := by
  refine zq_G_el (post := fun u => wpX_diagonal post u (nI r)) hG (fun N FC IC A1 A2 A3 A4 A5 A6 A7 a ha h => ?_)
  unfold wpX_diagonal
  dsimp only
  refine ly_reg hr (br_f (by decide) ?_)
  refine sm_analyse hr (zq_wk_AE ha) (show nI r = nI (zq_pl r 0) from rfl) h (fun N1 FC1 IC1 B1 B2 B3 B4 B5 B6 B7 b hb h => ?_)
  refine ⟨40, sm_diagonal_17 hr (post := post) (fun q d N2 FC2 IC2 C1 C2 C3 C4 C5 C6 C7 c e hc h => ?_) N1 FC1 IC1 B1 B2 B3 B4 B5 B6 B7 b hb 40 0 h⟩
  rw [e, zq_be h]
  exact H _
/-! a register that is none -/
theorem ly_detn {x : Int32} (hx : x < 0 ∨ 3 < x) {post : Int32 → St2 → Prop} {u : St2} (H : post (-1) u) : wpX_determinant post u x := by
  obtain ⟨n, fc, ic, a1, a2, a3, a4, a5, a6, a7⟩ := u
  unfold wpX_determinant
  dsimp only
  exact ly_nreg hx (br_t rfl H)
theorem ly_eign {x y : Int32} (hx : x < 0 ∨ 3 < x) {post : Int32 → St2 → Prop} {u : St2} (H : post (-1) u) : wpX_eigen post u x y := by
  obtain ⟨n, fc, ic, a1, a2, a3, a4, a5, a6, a7⟩ := u
  unfold wpX_eigen
  dsimp only
  exact ly_nreg hx (br_t rfl H)
theorem ly_dian {x : Int32} (hx : x < 0 ∨ 3 < x) {post : Int32 → St2 → Prop} {u : St2} (H : post 0 u) : wpX_diagonal post u x := by
  obtain ⟨n, fc, ic, a1, a2, a3, a4, a5, a6, a7⟩ := u
  unfold wpX_diagonal
  dsimp only
  exact ly_nreg hx (br_t rfl H)
theorem ly_setn {x y z : Int32} (hx : x < 0 ∨ 3 < x) {post : Int32 → St2 → Prop} {u : St2} (H : post 0 u) : wpX_set post u x y z := by
  obtain ⟨n, fc, ic, a1, a2, a3, a4, a5, a6, a7⟩ := u
  unfold wpX_set
  dsimp only
  exact ly_nreg hx (br_t rfl H)
theorem ly_getn {x y : Int32} (hx : x < 0 ∨ 3 < x) {post : Int32 → Prop} {u : St2} (H : post (-1)) : wpX_get post u x y := by
  obtain ⟨n, fc, ic, a1, a2, a3, a4, a5, a6, a7⟩ := u
  unfold wpX_get
  dsimp only
  exact ly_nreg hx (br_t rfl H)
/-! set and get -/
theorem ly_set1 {r : Nat} (hr : r < 4) {n t v : Nat} (h1 : 1 ≤ n) (h4 : n ≤ 4) (ht : t < n * n) (hv : v ≤ 4) {post : Int32 → St2 → Prop} {a b2 b3 b4 b5 b6 b7 : Nat → Int32} {fc ic : Int32} {A : Nat} (ha : zq_AE r a A) (H : ∀ a', zq_AE r a' (zq_wr A (4 * (t / n) + t % n) v) → post 1 (nI n, fc, ic, a', b2, b3, b4, b5, b6, b7)) : wpX_set post (nI n, fc, ic, a, b2, b3, b4, b5, b6, b7) (nI r) (nI t) (nI v) := by
  have nn : n * n ≤ 16 := Nat.mul_le_mul h4 h4
  have q1 : t / n < n := Nat.div_lt_of_lt_mul ht
  have q2 : t % n < n := Nat.mod_lt _ (by omega)
  have n0 : ¬ nI n = 0 := nI_ne0 (by omega) (by omega)
  unfold wpX_set
  dsimp only
  refine ly_reg hr (br_f (by decide) (br_f (nI_pos (by omega)) (br_f (by rw [pk_mul]; exact nI_ge ht (by omega)) (br_f (nI_pos (by omega)) (br_t (nI_le (b := 4) hv (by decide)) ⟨n0, n0, ?_⟩)))))
  rw [pk_rem (by omega) (by omega) (by omega), pk_div (by omega) (by omega) (by omega)]
  have L : zq_mp r (16 * 0 + 4 * (t / n) + t % n) < 144 := by rw [Nat.add_assoc]; exact zq_ix_lt hr (by omega) (by omega)
  show vp_in _ 144 ∧ ∀ y : Nat → Int32, y = upd a _ (nI v).toInt8.toInt32 → post 1 (nI n, fc, ic, y, b2, b3, b4, b5, b6, b7)
  have X : (16 * nI r) + (4 * nI (t / n)) + nI (t % n) = nI (zq_mp r (16 * 0 + 4 * (t / n) + t % n)) := zq_ix (r := r) (p0 := 0) (by omega) (by omega) (by omega) rfl rfl rfl
  rw [X]
  refine ⟨vp_in_nI L (by decide), fun y hy => ?_⟩
  rw [nI_clamp (by omega), zq_b7 v (by omega), show 16 * 0 + 4 * (t / n) + t % n = 4 * (t / n) + t % n by omega] at hy
  rw [hy]
  exact H _ (zq_AE_up hr (by omega) ha)
theorem ly_set0 {r : Nat} (hr : r < 4) {n y z : Int32} {post : Int32 → St2 → Prop} {a1 a2 a3 a4 a5 a6 a7 : Nat → Int32} {fc ic : Int32} (hx : y < 0 ∨ n * n ≤ y ∨ z < 0 ∨ ¬ z ≤ 4) (H : post 0 (n, fc, ic, a1, a2, a3, a4, a5, a6, a7)) : wpX_set post (n, fc, ic, a1, a2, a3, a4, a5, a6, a7) (nI r) y z := by
  unfold wpX_set
  dsimp only
  exact ly_reg hr (br_f (by decide) (br_c (fun _ => H) (fun g => br_c (fun _ => H) (fun g2 => br_c (fun _ => H) (fun g3 => br_f (((hx.resolve_left g).resolve_left g2).resolve_left g3) H)))))
theorem ly_get1 {r : Nat} (hr : r < 4) {n t d : Nat} (h1 : 1 ≤ n) (h4 : n ≤ 4) (ht : t < n * n) (hd : d < 5) {post : Int32 → Prop} {a b2 b3 b4 b5 b6 b7 : Nat → Int32} {fc ic : Int32} {A : Nat} (ha : zq_AE r a A) (hA : zq_rd A (4 * (t / n) + t % n) = d) (H : post (nI d)) : wpX_get post (nI n, fc, ic, a, b2, b3, b4, b5, b6, b7) (nI r) (nI t) := by
  have nn : n * n ≤ 16 := Nat.mul_le_mul h4 h4
  have q1 : t / n < n := Nat.div_lt_of_lt_mul ht
  have q2 : t % n < n := Nat.mod_lt _ (by omega)
  have n0 : ¬ nI n = 0 := nI_ne0 (by omega) (by omega)
  unfold wpX_get
  dsimp only
  refine ly_reg hr (br_f (by decide) (br_f (nI_pos (by omega)) (br_t (by rw [pk_mul]; exact nI_lt ht (by omega)) ⟨n0, n0, ?_⟩)))
  rw [pk_rem (by omega) (by omega) (by omega), pk_div (by omega) (by omega) (by omega)]
  have L : zq_mp r (16 * 0 + 4 * (t / n) + t % n) < 144 := by rw [Nat.add_assoc]; exact zq_ix_lt hr (by omega) (by omega)
  show vp_in _ 144 ∧ post (a _)
  have X : (16 * nI r) + (4 * nI (t / n)) + nI (t % n) = nI (zq_mp r (16 * 0 + 4 * (t / n) + t % n)) := zq_ix (r := r) (p0 := 0) (by omega) (by omega) (by omega) rfl rfl rfl
  rw [X]
  refine ⟨vp_in_nI L (by decide), ?_⟩
  rw [nI_clamp (by omega), show 16 * 0 + 4 * (t / n) + t % n = 4 * (t / n) + t % n by omega, ha _ (by omega) (by rw [hA]; exact hd), hA]
  exact H
theorem ly_get0 {r : Nat} (hr : r < 4) {n y : Int32} {post : Int32 → Prop} {a1 a2 a3 a4 a5 a6 a7 : Nat → Int32} {fc ic : Int32} (hx : y < 0 ∨ n * n ≤ y) (H : post (-1)) : wpX_get post (n, fc, ic, a1, a2, a3, a4, a5, a6, a7) (nI r) y := by
  unfold wpX_get
  dsimp only
  exact ly_reg hr (br_f (by decide) (br_c (fun _ => H) (fun g => br_f (Int32.not_lt.mpr (hx.resolve_left g)) H)))
theorem ly_A0 (n k : Nat) : zq_rd (ck_A n 0 0) k = 0 := by
  unfold ck_A
  by_cases e : k = Nat.add (Nat.mul 4 (Nat.div 0 n)) (Nat.mod 0 n)
  · rw [e, zq_rw_s _ _ _ (by decide)]
  · rw [zq_rw_n _ _ _ _ (by decide) e, zq_rd_0]
theorem ly_AE0 (r n : Nat) : zq_AE r (fun _ => 0) (ck_A n 0 0) := by
  intro k _ _
  rw [ly_A0]
  rfl
theorem ly_AE00 (r : Nat) : zq_AE r (fun _ => 0) 0 := by
  intro k _ _
  rw [zq_rd_0]
  rfl
end
section
/-! the law -/
section
variable {post : Int32 → St0 → Prop} {mc ms kc ks : Nat} {x0 x1 x2 x3 x4 x5 x6 x7 x8 x9 x10 x11 x12 : Int32}
/-- the diagonal's answer against what the law says -/
def ly_hd (n t v : Nat) (x8 x9 : Int32) : Prop := (x8 = 0 ∧ x9 = 0 ∧ v = 0) ∨ (x8 = 1 ∧ x9 = 0 ∧ v ≠ 0 ∧ ck_mid n t v = false) ∨ (x8 = 1 ∧ x9 = 1 ∧ v ≠ 0 ∧ ck_mid n t v = true)
def ly_he (n t v : Nat) (x4 x12 : Int32) : Prop := (∃ w, w ≤ 4 ∧ x4 = nI w ∧ x12 = nI (ck_eig n t v w)) ∨ ((x4 < 0 ∨ ¬ x4 ≤ 4) ∧ x12 = -1)
theorem ly_bf {v : Nat} (h : v ≠ 0) : Nat.beq v 0 = false := by
  cases v with
  | zero => exact absurd rfl h
  | succ v => rfl
theorem ly_330 (hp : post 1 ()) (z : Int32) : wL_lawOf_330 post mc ms z z kc ks := br_t rfl hp
theorem ly_284 (hp : post 1 ()) {r n t v : Nat} (hr : r < 4) (hd : ly_hd n t v x8 x9) (he : ly_he n t v x4 x12) (z : Int32) {fn fc ic : Int32} {a1 a2 a3 a4 a5 a6 a7 : Nat → Int32} (hG : zq_G r (ck_R n t v) (fn, fc, ic, a1, a2, a3, a4, a5, a6, a7)) : wL_lawOf_284 post mc ms (nI r) x4 1 x8 x9 x12 z z kc ks fn fc ic a1 a2 a3 a4 a5 a6 a7 := by
  refine br_t rfl ?_
  have D : ∀ u : St2, zq_G r (ck_D n t v) u → wpX_diagonal (fun r_124 u => match u with
      | (_, _, _, _, _, _, _, _, _, _) => (((1 : Int32) = 0 → (wL_lawOf_329 post mc ms r_124 kc ks)) ∧ (¬ (1 : Int32) = 0 → (((x8 = 0 → (wL_lawOf_325 post mc ms r_124 kc ks)) ∧ (¬ x8 = 0 → (((x9 = 0 → (wL_lawOf_329 post mc ms r_124 kc ks)) ∧ (¬ x9 = 0 → (wL_lawOf_325 post mc ms r_124 kc ks)))))))))) u (nI r) := by
    intro u hu
    refine ly_dia hr hu (fun u' => ?_)
    obtain ⟨_, _, _, _, _, _, _, _, _, _⟩ := u'
    refine br_f (by decide) ?_
    rcases hd with ⟨h8, h9, hv⟩ | ⟨h8, h9, hv, hm⟩ | ⟨h8, h9, hv, hm⟩
    · subst hv
      exact br_t h8 (ly_330 hp 1)
    · have E : ck_dia n t v = 0 := by unfold ck_dia; rw [ly_bf hv, hm]; rfl
      rw [E]
      exact br_f (by rw [h8]; decide) (br_t h9 (ly_330 hp 0))
    · have E : ck_dia n t v = 1 := by unfold ck_dia; rw [ly_bf hv, hm]; rfl
      rw [E]
      exact br_f (by rw [h8]; decide) (br_f (by rw [h9]; decide) (ly_330 hp 1))
  rcases he with ⟨w, hw, e4, e12⟩ | ⟨h4, e12⟩
  · rw [e4]
    refine ly_eig hr hw hG (fun u' hu => ?_)
    obtain ⟨_, _, _, _, _, _, _, _, _, _⟩ := u'
    exact br_t e12.symm (D _ hu)
  · exact ly_eigx hr h4 (br_t e12.symm (D _ (ly_RD hG)))
theorem ly_262 (hp : post 1 ()) {r n t v : Nat} (hr : r < 4) (hn : n < 5) (hd : ly_hd n t v x8 x9) (he : ly_he n t v x4 x12) (e11 : x11 = nI (ck_det n v)) (z : Int32) {fn fc ic : Int32} {a1 a2 a3 a4 a5 a6 a7 : Nat → Int32} (hG : zq_G r (ck_S n t v) (fn, fc, ic, a1, a2, a3, a4, a5, a6, a7)) : wL_lawOf_262 post mc ms (nI r) x4 1 x8 x9 x11 x12 z z kc ks fn fc ic a1 a2 a3 a4 a5 a6 a7 := by
  refine br_t rfl (ly_det hr hn hG (fun u' hu => ?_))
  obtain ⟨_, _, _, _, _, _, _, _, _, _⟩ := u'
  rw [e11]
  exact br_f (by decide) (ly_284 hp hr hd he _ hu)
/-- a fresh object, as the constructor leaves it -/
def ly_hI (n : Nat) (x0 : Int32) : Prop := ∀ P : St2 → Prop, P (nI n, 0, 0, (fun _ => 0), (fun _ => 0), (fun _ => 0), (fun _ => 0), (fun _ => 0), (fun _ => 0), (fun _ => 0)) → wpX_init P 7 306 (0, 0, 0) x0
theorem ly_G0 {r n t v : Nat} {a : Nat → Int32} (ha : zq_AE r a (ck_A n t v)) (hrun : ck_run n t v = true) : zq_G r (ck_S n t v) (nI n, 0, 0, a, (fun _ => 0), (fun _ => 0), (fun _ => 0), (fun _ => 0), (fun _ => 0), (fun _ => 0)) := by
  rw [zq_ar_0]
  exact zq_G_of (fc := 0) (ic := 0) ha hrun
/-- no register -/
theorem ly_196n (hp : post 1 ()) {n : Nat} (hI : ly_hI n x0) (hx : x1 < 0 ∨ 3 < x1) : wL_lawOf_196 post 62 992 x0 x1 x2 x3 x4 x5 0 0 0 0 0 (-1) 0 0 := by
  refine ⟨by omega, by omega, 7, 306, by omega, by omega, hI _ ?_⟩
  refine ly_setn hx (br_t rfl ?_)
  refine ly_getn hx (br_t rfl (br_t rfl ?_))
  refine ly_detn hx (br_t rfl (br_t rfl ?_))
  refine ly_eign hx (br_t rfl ?_)
  refine ly_dian hx (br_t rfl ?_)
  exact ly_330 hp 0
/-- put -/
theorem ly_196p (hp : post 1 ()) {r n t v : Nat} (hr : r < 4) (h1 : 1 ≤ n) (h4 : n ≤ 4) (ht : t < n * n) (hv : v ≤ 4) (hrun : ck_run n t v = true) (hI : ly_hI n x0) (hd : ly_hd n t v x8 x9) (e11 : x11 = nI (ck_det n v)) (he : ly_he n t v x4 x12) : wL_lawOf_196 post 62 992 x0 (nI r) (nI t) (nI v) x4 (nI n) 1 1 x8 x9 x11 x12 0 0 := by
  have nn : n * n ≤ 16 := Nat.mul_le_mul h4 h4
  refine ⟨by omega, by omega, 7, 306, by omega, by omega, hI _ ?_⟩
  refine ly_set1 hr h1 h4 ht hv (ly_AE00 r) (fun a ha => ?_)
  have ha' : zq_AE r a (ck_A n t v) := ha
  refine br_t rfl (ly_get1 hr h1 h4 ht (d := v) (by omega) ha' (zq_rw_s _ _ _ (by omega)) ?_)
  refine br_f (by decide) (br_f (nI_pos (by omega)) (br_f (by rw [pk_mul]; exact nI_ge ht (by omega)) (br_f (by decide) ?_)))
  exact ly_262 hp hr (by omega) hd he e11 _ (ly_G0 ha' hrun)
/-- a register, not put -/
theorem ly_196q (hp : post 1 ()) {r n : Nat} (hr : r < 4) (h1 : 1 ≤ n) (h4 : n ≤ 4) (hx : x2 < 0 ∨ nI n * nI n ≤ x2 ∨ x3 < 0 ∨ ¬ x3 ≤ 4) (hrun : ck_run n 0 0 = true) (hI : ly_hI n x0) (e11 : x11 = nI (ck_det n 0)) (he : ly_he n 0 0 x4 x12) : wL_lawOf_196 post 62 992 x0 (nI r) x2 x3 x4 (nI n) 1 0 0 0 x11 x12 0 0 := by
  have nn : n * n ≤ 16 := Nat.mul_le_mul h4 h4
  refine ⟨by omega, by omega, 7, 306, by omega, by omega, hI _ ?_⟩
  refine ly_set0 hr hx (br_t rfl ?_)
  have F : ∀ z : Int32, wL_lawOf_262 post 62 992 (nI r) x4 1 0 0 x11 x12 z z (0 + 1 + 7) (0 + 10 + 306) (nI n) 0 0 (fun _ => 0) (fun _ => 0) (fun _ => 0) (fun _ => 0) (fun _ => 0) (fun _ => 0) (fun _ => 0) := fun z => ly_262 hp hr (by omega) (Or.inl ⟨rfl, rfl, rfl⟩) he e11 z (ly_G0 (ly_AE0 r n) hrun)
  by_cases c : x2 < 0 ∨ nI n * nI n ≤ x2
  · refine ly_get0 hr c (br_f (by decide) (br_c (fun _ => F _) (fun g => br_t (c.resolve_left g) (F _))))
  · have c1 : ¬ x2 < 0 := fun z => c (Or.inl z)
    have c2 : ¬ nI n * nI n ≤ x2 := fun z => c (Or.inr z)
    obtain ⟨t, ht, e⟩ := nI_of c1
    subst e
    have ht' : t < n * n := by
      rw [pk_mul, nI_leI (by omega) ht] at c2
      omega
    refine ly_get1 hr h1 h4 ht' (d := 0) (by omega) (ly_AE0 r n) (ly_A0 _ _) ?_
    exact br_f (by decide) (br_f c1 (br_f c2 (br_t rfl (F 0))))
/-! what the law works out ahead of the object -/
theorem ly_142 {n t v : Nat} (hn : 1 ≤ n) (h4 : n ≤ 4) (hv : v ≤ 4) (h8 : ly_hd n t v x8 x9) (h3 : v ≠ 0 → x3 = nI v) (e11 : x11 = nI (ck_det n v)) (h10 : (x10 = 0 ∧ (x4 < 0 ∨ ¬ x4 ≤ 4)) ∨ (x10 = 1 ∧ ∃ w, w ≤ 4 ∧ x4 = nI w)) (M : ∀ x12, ly_he n t v x4 x12 → wL_lawOf_196 post mc ms x0 x1 x2 x3 x4 (nI n) 1 x7 x8 x9 x11 x12 kc ks) : wL_lawOf_142 post mc ms x0 x1 x2 x3 x4 (nI n) 1 x7 x8 x9 x10 x11 kc ks := by
  rcases h10 with ⟨e10, h⟩ | ⟨e10, w, hw, e4⟩
  · exact br_t e10 (M _ (Or.inr ⟨h, rfl⟩))
  · refine br_f (by rw [e10]; decide) (br_f (by decide) ?_)
    subst e4
    have N : ∀ k, k = ck_eig n t v w → wL_lawOf_196 post mc ms x0 x1 x2 x3 (nI w) (nI n) 1 x7 x8 x9 x11 (nI k) kc ks := fun k e => M _ (Or.inl ⟨w, hw, rfl, by rw [e]⟩)
    refine pk_eq w 0 (fun z => ?_) (fun z => ?_)
    · subst z
      rcases h8 with ⟨h8, h9, hv⟩ | ⟨h8, h9, hv, hm⟩ | ⟨h8, h9, hv, hm⟩
      · subst hv
        exact br_t h8 (N n rfl)
      · refine br_f (by rw [h8]; decide) ?_
        rw [show nI n - 1 = nI (n - 1) from pk_sub (a := n) (b := 1) hn]
        refine N _ ?_
        unfold ck_eig
        rw [ly_bf hv]
        rfl
      · refine br_f (by rw [h8]; decide) ?_
        rw [show nI n - 1 = nI (n - 1) from pk_sub (a := n) (b := 1) hn]
        refine N _ ?_
        unfold ck_eig
        rw [ly_bf hv]
        rfl
    · rcases h8 with ⟨h8, h9, hv⟩ | ⟨h8, h9, hv, hm⟩ | ⟨h8, h9, hv, hm⟩
      · subst hv
        refine br_t h9 (N 0 ?_)
        unfold ck_eig
        rw [ly_bf z]
        rfl
      · refine br_t h9 (N 0 ?_)
        unfold ck_eig
        rw [ly_bf z, hm]
        rfl
      · refine br_f (by rw [h9]; decide) ?_
        have e3 := h3 hv
        subst e3
        refine pk_eq w v (fun g => ?_) (fun g => ?_)
        · refine N 1 ?_
          unfold ck_eig
          rw [ly_bf z, hm, g, Nat.beq_refl]
          rfl
        · refine N 0 ?_
          unfold ck_eig
          have b : Nat.beq w v = false := by
            cases hb : Nat.beq w v with
            | false => rfl
            | true => exact absurd (zq_be hb) g
          rw [ly_bf z, hm, b]
          rfl
theorem ly_124 {n t v : Nat} (hn : 1 ≤ n) (h4 : n ≤ 4) (hv : v ≤ 4) (h8 : ly_hd n t v x8 x9) (h3 : v ≠ 0 → x3 = nI v) (h10 : (x10 = 0 ∧ (x4 < 0 ∨ ¬ x4 ≤ 4)) ∨ (x10 = 1 ∧ ∃ w, w ≤ 4 ∧ x4 = nI w)) (M : ∀ x11 x12, x11 = nI (ck_det n v) → ly_he n t v x4 x12 → wL_lawOf_196 post mc ms x0 x1 x2 x3 x4 (nI n) 1 x7 x8 x9 x11 x12 kc ks) : wL_lawOf_124 post mc ms x0 x1 x2 x3 x4 (nI n) 1 x7 x8 x9 x10 kc ks := by
  have Z : nI 0 = nI (ck_det n v) → wL_lawOf_141 post mc ms x0 x1 x2 x3 x4 (nI n) 1 x7 x8 x9 x10 kc ks := fun e => ly_142 hn h4 hv h8 h3 e h10 (fun x12 he => M _ x12 e he)
  refine pk_eq n 1 (fun z => ?_) (fun z => ?_)
  · subst z
    have h8' := h8
    rcases h8' with ⟨g8, g9, gv⟩ | ⟨g8, g9, gv, gm⟩ | ⟨g8, g9, gv, gm⟩
    · subst gv
      exact br_t g8 (Z rfl)
    · refine br_f (by rw [g8]; decide) ?_
      exact ly_142 hn h4 hv h8 h3 (h3 gv) h10 (fun x12 he => M _ x12 (h3 gv) he)
    · refine br_f (by rw [g8]; decide) ?_
      exact ly_142 hn h4 hv h8 h3 (h3 gv) h10 (fun x12 he => M _ x12 (h3 gv) he)
  · refine Z ?_
    unfold ck_det
    have b : Nat.beq n 1 = false := by
      cases hb : Nat.beq n 1 with
      | false => rfl
      | true => exact absurd (zq_be hb) z
    rw [b]
    rfl
theorem ly_106 {n t v : Nat} (hn : 1 ≤ n) (h4 : n ≤ 4) (hv : v ≤ 4) (h8 : ly_hd n t v x8 x9) (h3 : v ≠ 0 → x3 = nI v) (M : ∀ x11 x12, x11 = nI (ck_det n v) → ly_he n t v x4 x12 → wL_lawOf_196 post mc ms x0 x1 x2 x3 x4 (nI n) 1 x7 x8 x9 x11 x12 kc ks) : wL_lawOf_106 post mc ms x0 x1 x2 x3 x4 (nI n) 1 x7 x8 x9 kc ks := by
  refine br_c (fun g => ?_) (fun g => br_c (fun g2 => ?_) (fun g2 => ?_))
  · exact ly_124 hn h4 hv h8 h3 (Or.inl ⟨rfl, Or.inl g⟩) M
  · exact ly_124 hn h4 hv h8 h3 (Or.inl ⟨rfl, Or.inr (Int32.not_le.mpr g2)⟩) M
  · obtain ⟨w, hw, e⟩ := nI_of2 (M := 4) (n := 4) (by decide) g (Int32.not_lt.mp g2)
    exact ly_124 hn h4 hv h8 h3 (Or.inr ⟨rfl, w, hw, e⟩) M
theorem ly_34 (hp : post 1 ()) {n : Nat} (hI : ly_hI n x0) (hx : x1 < 0 ∨ 3 < x1) : wL_lawOf_34 post 62 992 x0 x1 x2 x3 x4 x5 0 0 := by
  have M : wL_lawOf_196 post 62 992 x0 x1 x2 x3 x4 x5 0 0 0 0 0 (-1) 0 0 := ly_196n hp hI hx
  have M1 : ∀ x10 : Int32, wL_lawOf_141 post 62 992 x0 x1 x2 x3 x4 x5 0 0 0 0 x10 0 0 := fun x10 => br_c (fun _ => M) (fun _ => br_t rfl M)
  have M2 : ∀ x10 : Int32, wL_lawOf_124 post 62 992 x0 x1 x2 x3 x4 x5 0 0 0 0 x10 0 0 := fun x10 => br_c (fun _ => br_t rfl (M1 x10)) (fun _ => M1 x10)
  have M3 : wL_lawOf_105 post 62 992 x0 x1 x2 x3 x4 x5 0 0 0 0 0 := br_c (fun _ => M2 0) (fun _ => br_c (fun _ => M2 0) (fun _ => M2 1))
  have M4 : wL_lawOf_84 post 62 992 x0 x1 x2 x3 x4 x5 0 0 0 0 := br_t rfl M3
  have M5 : wL_lawOf_68 post 62 992 x0 x1 x2 x3 x4 x5 0 0 0 := br_t rfl M4
  exact br_t rfl M5
theorem ly_68 (hp : post 1 ()) {r n : Nat} (hr : r < 4) (h1 : 1 ≤ n) (h4 : n ≤ 4) (hx : x2 < 0 ∨ nI n * nI n ≤ x2 ∨ x3 < 0 ∨ ¬ x3 ≤ 4) (hrun : ck_run n 0 0 = true) (hI : ly_hI n x0) : wL_lawOf_68 post 62 992 x0 (nI r) x2 x3 x4 (nI n) 1 0 0 := by
  have M3 : wL_lawOf_105 post 62 992 x0 (nI r) x2 x3 x4 (nI n) 1 0 0 0 0 := ly_106 (t := 0) (v := 0) h1 h4 (by omega) (Or.inl ⟨rfl, rfl, rfl⟩) (fun z => absurd rfl z) (fun x11 x12 e11 he => ly_196q hp hr h1 h4 hx hrun hI e11 he)
  have M4 : wL_lawOf_84 post 62 992 x0 (nI r) x2 x3 x4 (nI n) 1 0 0 0 := br_t rfl M3
  exact br_t rfl M4
theorem ly_69 (hp : post 1 ()) {r n t v : Nat} (hr : r < 4) (h1 : 1 ≤ n) (h4 : n ≤ 4) (ht : t < n * n) (hv : v ≤ 4) (hrun : ck_run n t v = true) (hI : ly_hI n x0) : wL_lawOf_69 post 62 992 x0 (nI r) (nI t) (nI v) x4 (nI n) 1 1 0 0 := by
  have nn : n * n ≤ 16 := Nat.mul_le_mul h4 h4
  have M : ∀ x8 x9 : Int32, ly_hd n t v x8 x9 → wL_lawOf_106 post 62 992 x0 (nI r) (nI t) (nI v) x4 (nI n) 1 1 x8 x9 0 0 := fun x8 x9 h8 => ly_106 h1 h4 hv h8 (fun _ => rfl) (fun x11 x12 e11 he => ly_196p hp hr h1 h4 ht hv hrun hI h8 e11 he)
  refine br_f (by decide) (pk_le v 0 (fun z => ?_) (fun z => ?_))
  · have e : v = 0 := by omega
    have M3 : wL_lawOf_105 post 62 992 x0 (nI r) (nI t) (nI v) x4 (nI n) 1 1 0 0 0 := M 0 0 (Or.inl ⟨rfl, rfl, e⟩)
    exact br_t rfl M3
  · refine br_f (by decide) ⟨?_, ?_⟩
    · rw [nI_1]
      exact nI_ne0 (by omega) (by omega)
    · rw [nI_1, pk_rem (by omega) (by omega) (by omega)]
      refine pk_eq (t % (n + 1)) 0 (fun g => ?_) (fun g => ?_) rfl rfl (by have := Nat.mod_lt t (show 0 < n + 1 by omega); omega)
      · refine M 1 1 (Or.inr (Or.inr ⟨rfl, rfl, by omega, ?_⟩))
        unfold ck_mid
        rw [ly_bf (by omega)]
        show Nat.beq (t % (n + 1)) 0 = true
        rw [g]
        rfl
      · have M3 : wL_lawOf_105 post 62 992 x0 (nI r) (nI t) (nI v) x4 (nI n) 1 1 1 0 0 := M 1 0 (Or.inr (Or.inl ⟨rfl, rfl, by omega, by
          unfold ck_mid
          rw [ly_bf (by omega)]
          exact ly_bf g⟩))
        exact M3
theorem ly_19 (hp : post 1 ()) {n : Nat} (h1 : 1 ≤ n) (h4 : n ≤ 4) (hrun : ∀ t v, t < n * n → v ≤ 4 → ck_run n t v = true) (hI : ly_hI n x0) : wL_lawOf_19 post 62 992 x0 x1 x2 x3 x4 (nI n) 0 0 := by
  have nn : n * n ≤ 16 := Nat.mul_le_mul h4 h4
  have n1 : 1 * 1 ≤ n * n := Nat.mul_le_mul h1 h1
  refine br_c (fun g => ly_34 hp hI (Or.inl g)) (fun g => br_c (fun g2 => ly_34 hp hI (Or.inr g2)) (fun g2 => ?_))
  obtain ⟨r, hr, e⟩ := nI_of2 (M := 3) (n := 3) (by decide) g (Int32.not_lt.mp g2)
  subst e
  have Q : (x2 < 0 ∨ nI n * nI n ≤ x2 ∨ x3 < 0 ∨ ¬ x3 ≤ 4) → wL_lawOf_68 post 62 992 x0 (nI r) x2 x3 x4 (nI n) 1 0 0 := fun hx => ly_68 hp (by omega) h1 h4 hx (hrun 0 0 (by omega) (by omega)) hI
  refine br_f (by decide) (br_c (fun c => Q (Or.inl c)) (fun c1 => br_c (fun c => Q (Or.inr (Or.inl c))) (fun c2 => br_c (fun c => Q (Or.inr (Or.inr (Or.inl c)))) (fun c3 => br_c (fun c => Q (Or.inr (Or.inr (Or.inr (Int32.not_le.mpr c))))) (fun c4 => ?_)))))
  obtain ⟨t, ht, e⟩ := nI_of c1
  subst e
  obtain ⟨v, hv, e⟩ := nI_of2 (M := 4) (n := 4) (by decide) c3 (Int32.not_lt.mp c4)
  subst e
  have ht' : t < n * n := by
    rw [pk_mul, nI_leI (by omega) ht] at c2
    omega
  exact ly_69 hp (by omega) h1 h4 ht' hv (hrun t v ht' hv) hI
theorem ly_init {x0 y : Int32} (P : St2 → Prop) (h : P (y, 0, 0, (fun _ => 0), (fun _ => 0), (fun _ => 0), (fun _ => 0), (fun _ => 0), (fun _ => 0), (fun _ => 0))) (hc : (1 ≤ x0 ∧ x0 ≤ 4 ∧ y = x0) ∨ (1 ≤ x0 ∧ ¬ x0 ≤ 4 ∧ y = 4) ∨ (¬ 1 ≤ x0 ∧ y = 1)) : wpX_init P 7 306 (0, 0, 0) x0 := by
  refine ⟨by omega, by omega, by omega, by omega, by omega, by omega, by omega, by omega, by omega, by omega, by omega, by omega, by omega, by omega, ?_⟩
  rcases hc with ⟨c1, c2, e⟩ | ⟨c1, c2, e⟩ | ⟨c1, e⟩
  · subst e
    exact br_t c1 (br_t c2 h)
  · subst e
    exact br_t c1 (br_f c2 h)
  · subst e
    exact br_f c1 h
theorem ly_of (hp : post 1 ()) (hrun : ∀ n t v, 1 ≤ n → n ≤ 4 → t < n * n → v ≤ 4 → ck_run n t v = true) : wpL_lawOf post 62 992 () x0 x1 x2 x3 x4 := by
  refine br_c (fun c1 => br_c (fun c2 => ?_) (fun c2 => ?_)) (fun c1 => ?_)
  · have c0 : ¬ x0 < 0 := by
      intro z
      have h1 := Int32.le_iff_toInt_le.mp c1
      have h2 := Int32.lt_iff_toInt_lt.mp z
      have h3 : (1 : Int32).toInt = 1 := rfl
      have h4 : (0 : Int32).toInt = 0 := rfl
      omega
    obtain ⟨n, hn, e⟩ := nI_of2 (M := 4) (n := 4) (by decide) c0 c2
    subst e
    have n1 : 1 ≤ n := (nI_leI (a := 1) (by decide) (by omega)).mp c1
    exact ly_19 hp n1 hn (fun t v ht hv => hrun n t v n1 hn ht hv) (fun P h => ly_init P h (Or.inl ⟨c1, c2, rfl⟩))
  · exact ly_19 hp (n := 4) (by omega) (by omega) (fun t v ht hv => hrun 4 t v (by omega) (by omega) ht hv) (fun P h => ly_init P h (Or.inr (Or.inl ⟨c1, c2, rfl⟩)))
  · exact ly_19 hp (n := 1) (by omega) (by omega) (fun t v ht hv => hrun 1 t v (by omega) (by omega) ht hv) (fun P h => ly_init P h (Or.inr (Or.inr ⟨c1, rfl⟩)))
end
end
section
theorem ck_all (n t v : Nat) (h1 : 1 ≤ n) (h4 : n ≤ 4) (ht : t < n * n) (hv : v ≤ 4) : ck_run n t v = true := by
  have hn : n = 1 ∨ n = 2 ∨ n = 3 ∨ n = 4 := by omega
  rcases hn with e | e | e | e
  · subst e
    exact ck_1 t (by omega) v (by omega)
  · subst e
    exact ck_2 t (by omega) v (by omega)
  · subst e
    exact ck_3 t (by omega) v (by omega)
  · subst e
    have hq : t < 4 ∨ (∃ s, s < 4 ∧ t = Nat.add 4 s) ∨ (∃ s, s < 4 ∧ t = Nat.add 8 s) ∨ (∃ s, s < 4 ∧ t = Nat.add 12 s) := by
      by_cases c1 : t < 4
      · exact Or.inl c1
      · by_cases c2 : t < 8
        · exact Or.inr (Or.inl ⟨t - 4, by omega, show t = 4 + (t - 4) by omega⟩)
        · by_cases c3 : t < 12
          · exact Or.inr (Or.inr (Or.inl ⟨t - 8, by omega, show t = 8 + (t - 8) by omega⟩))
          · exact Or.inr (Or.inr (Or.inr ⟨t - 12, by omega, show t = 12 + (t - 12) by omega⟩))
    rcases hq with h | ⟨s, hs, e⟩ | ⟨s, hs, e⟩ | ⟨s, hs, e⟩
    · exact ck_4a t h v (by omega)
    · rw [e]
      exact ck_4b s hs v (by omega)
    · rw [e]
      exact ck_4c s hs v (by omega)
    · rw [e]
      exact ck_4d s hs v (by omega)
theorem ly_cell {post : Int32 → Prop} {L : Nat} {xs : Nat → Int32} (hL : L ≤ 5) (k : Nat) (hk : k < 5) (H : ∀ x, post x) : wpL_cellAt post L xs () (nI k) := pk_le L k (fun _ => H _) (fun z => ⟨vp_in_nI z (by omega), H _⟩)
theorem i_vc (xs : Nat → Int32) (L : Nat) (hL : L ≤ 5) : wpL_law (fun r => r = 1) L xs := by
  refine ly_cell hL 0 (by decide) (fun r1 => ?_)
  refine ly_cell hL 1 (by decide) (fun r2 => ?_)
  refine ly_cell hL 2 (by decide) (fun r3 => ?_)
  refine ly_cell hL 3 (by decide) (fun r4 => ?_)
  refine ly_cell hL 4 (by decide) (fun r5 => ?_)
  exact ⟨62, 992, by omega, by omega, ly_of rfl ck_all⟩
end

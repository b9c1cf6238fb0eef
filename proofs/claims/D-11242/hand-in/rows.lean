section
/-! Codes: an Int32 is nI of a Nat; an array is zq_g of one Nat, 32 bits a cell. -/
noncomputable def zq_if (b x y : Bool) : Bool := @Bool.rec (fun _ => Bool) y x b
noncomputable def zq_nif (b : Bool) (x y : Nat) : Nat := @Bool.rec (fun _ => Nat) y x b
noncomputable def zq_fc (v : Nat) (k : Nat → Bool) : Bool := @Nat.rec (fun _ => Bool) (k (nat_lit 0)) (fun n _ => k (Nat.succ n)) v
theorem zq_fce (v : Nat) (k : Nat → Bool) : zq_fc v k = k v := by cases v <;> rfl
theorem zq_fe {v : Nat} {k : Nat → Bool} (h : zq_fc v k = true) : k v = true := (zq_fce v k) ▸ h
def zq_md (x : Nat) : Nat := Nat.mod x (nat_lit 4294967296)
def zq_add (x y : Nat) : Nat := Nat.mod (Nat.add x y) (nat_lit 4294967296)
def zq_sub (x y : Nat) : Nat := Nat.mod (Nat.add x (Nat.sub (nat_lit 4294967296) (Nat.mod y (nat_lit 4294967296)))) (nat_lit 4294967296)
def zq_neg (x : Nat) : Nat := Nat.mod (Nat.sub (nat_lit 4294967296) (Nat.mod x (nat_lit 4294967296))) (nat_lit 4294967296)
def zq_mul (x y : Nat) : Nat := Nat.mod (Nat.mul x y) (nat_lit 4294967296)
def zq_and (x y : Nat) : Nat := Nat.mod (Nat.land x y) (nat_lit 4294967296)
def zq_or (x y : Nat) : Nat := Nat.mod (Nat.lor x y) (nat_lit 4294967296)
def zq_xor (x y : Nat) : Nat := Nat.mod (Nat.xor x y) (nat_lit 4294967296)
def zq_enc (x : Int32) : Nat := x.toBitVec.toNat
noncomputable def zq_div (x y : Nat) : Nat := zq_nif (Nat.ble (zq_md x) (nat_lit 2147483647)) (zq_nif (Nat.ble (zq_md y) (nat_lit 2147483647)) (zq_nif (Nat.ble (nat_lit 1) (zq_md y)) (Nat.div (zq_md x) (zq_md y)) (zq_enc (nI x / nI y))) (zq_enc (nI x / nI y))) (zq_enc (nI x / nI y))
def zq_shl (x s : Nat) : Nat := Nat.mod (Nat.shiftLeft x (Nat.mod s (nat_lit 32))) (nat_lit 4294967296)
noncomputable def zq_shr (x s : Nat) : Nat := zq_nif (Nat.ble (zq_md x) (nat_lit 2147483647)) (Nat.shiftRight (zq_md x) (Nat.mod s (nat_lit 32))) (zq_enc (nI x >>> (nI s &&& 31)))
noncomputable def zq_i8 (x : Nat) : Nat := zq_nif (Nat.ble (zq_md x) (nat_lit 127)) (zq_md x) (zq_nif (Nat.ble (nat_lit 4294967168) (zq_md x)) (zq_md x) (zq_enc (nI x).toInt8.toInt32))
noncomputable def zq_i16 (x : Nat) : Nat := zq_nif (Nat.ble (zq_md x) (nat_lit 32767)) (zq_md x) (zq_nif (Nat.ble (nat_lit 4294934528) (zq_md x)) (zq_md x) (zq_enc (nI x).toInt16.toInt32))
def zq_bo (x : Nat) : Nat := zq_and x (nat_lit 1)
def zq_bi (x : Nat) : Nat := Nat.mod (Nat.add x (nat_lit 2147483648)) (nat_lit 4294967296)
def zq_le (x y : Nat) : Bool := Nat.ble (zq_bi x) (zq_bi y)
def zq_lt (x y : Nat) : Bool := Nat.ble (Nat.succ (zq_bi x)) (zq_bi y)
def zq_eq (x y : Nat) : Bool := Nat.beq (zq_md x) (zq_md y)
def zq_in (i n : Nat) : Bool := Nat.ble (Nat.succ (zq_md i)) n
noncomputable def zq_cl (i : Nat) : Nat := zq_nif (Nat.ble (zq_md i) (nat_lit 2147483647)) (zq_md i) (nat_lit 0)
def zq_get (A i : Nat) : Nat := Nat.mod (Nat.shiftRight A (Nat.mul (nat_lit 32) i)) (nat_lit 4294967296)
def zq_set (A i v : Nat) : Nat := Nat.xor A (Nat.shiftLeft (Nat.xor (zq_get A i) (zq_md v)) (Nat.mul (nat_lit 32) i))
def zq_g (A : Nat) : Nat → Int32 := fun i => nI (zq_get A i)
/-! the numbers -/
theorem zq_m1 : (-1 : Int32) = nI (nat_lit 4294967295) := by decide
theorem zq_m1000 : (-1000 : Int32) = nI (nat_lit 4294966296) := by decide
theorem zq_m1001 : (-1001 : Int32) = nI (nat_lit 4294966295) := by decide
theorem zq_m1002 : (-1002 : Int32) = nI (nat_lit 4294966294) := by decide
theorem zq_bv (x : Nat) : (nI x).toBitVec = BitVec.ofNat 32 x := rfl
theorem zq_ext {x y : Int32} (h : x.toBitVec = y.toBitVec) : x = y := Int32.toBitVec_inj.mp h
theorem zq_nmd (x : Nat) : nI (x % 4294967296) = nI x := by
  apply zq_ext
  rw [zq_bv, zq_bv]
  apply BitVec.eq_of_toNat_eq
  rw [BitVec.toNat_ofNat, BitVec.toNat_ofNat]
  exact Nat.mod_mod x 4294967296
theorem zq_nie (x : Int32) : nI (zq_enc x) = x := by
  apply zq_ext
  rw [zq_bv]
  exact BitVec.ofNat_toNat _ _ |>.trans (BitVec.setWidth_eq _)
theorem zq_hadd {ex ey : Int32} {x y : Nat} (hx : ex = nI x) (hy : ey = nI y) : ex + ey = nI (zq_add x y) := by
  rw [hx, hy, nI_add]; exact (zq_nmd (x + y)).symm
theorem zq_hmul {ex ey : Int32} {x y : Nat} (hx : ex = nI x) (hy : ey = nI y) : ex * ey = nI (zq_mul x y) := by
  rw [hx, hy]
  have : nI x * nI y = nI (x * y) := (Int32.ofNat_mul x y).symm
  rw [this]; exact (zq_nmd (x * y)).symm
theorem zq_hsub {ex ey : Int32} {x y : Nat} (hx : ex = nI x) (hy : ey = nI y) : ex - ey = nI (zq_sub x y) := by
  have h1 : nI (zq_sub x y) = nI (x + (4294967296 - y % 4294967296)) := zq_nmd _
  have h2 : nI (x + (4294967296 - y % 4294967296)) + nI y = nI x := by
    rw [nI_add, ← zq_nmd (x + (4294967296 - y % 4294967296) + y), ← zq_nmd x]
    congr 1
    omega
  rw [hx, hy, h1, ← h2, Int32.add_sub_cancel]
theorem zq_hneg {ex : Int32} {x : Nat} (hx : ex = nI x) : -ex = nI (zq_neg x) := by
  have h1 : nI (zq_neg x) = nI (4294967296 - x % 4294967296) := zq_nmd _
  have h2 : nI (4294967296 - x % 4294967296) + nI x = 0 := by
    rw [nI_add, ← zq_nmd (4294967296 - x % 4294967296 + x), ← nI_0]
    congr 1
    omega
  rw [hx, h1]
  have h3 : -(nI x) = (nI (4294967296 - x % 4294967296) + nI x) - nI x := by rw [h2, Int32.zero_sub]
  rw [h3, Int32.add_sub_cancel]
theorem zq_hand {ex ey : Int32} {x y : Nat} (hx : ex = nI x) (hy : ey = nI y) : ex &&& ey = nI (zq_and x y) := by
  rw [hx, hy]
  apply zq_ext
  rw [Int32.toBitVec_and, zq_bv, zq_bv, zq_bv]
  apply BitVec.eq_of_toNat_eq
  rw [BitVec.toNat_and, BitVec.toNat_ofNat, BitVec.toNat_ofNat, BitVec.toNat_ofNat]
  show _ = ((x &&& y) % 2 ^ 32) % 2 ^ 32
  rw [Nat.mod_mod, Nat.and_mod_two_pow]
theorem zq_hor {ex ey : Int32} {x y : Nat} (hx : ex = nI x) (hy : ey = nI y) : ex ||| ey = nI (zq_or x y) := by
  rw [hx, hy]
  apply zq_ext
  rw [Int32.toBitVec_or, zq_bv, zq_bv, zq_bv]
  apply BitVec.eq_of_toNat_eq
  rw [BitVec.toNat_or, BitVec.toNat_ofNat, BitVec.toNat_ofNat, BitVec.toNat_ofNat]
  show _ = ((x ||| y) % 2 ^ 32) % 2 ^ 32
  rw [Nat.mod_mod, Nat.or_mod_two_pow]
theorem zq_hxor {ex ey : Int32} {x y : Nat} (hx : ex = nI x) (hy : ey = nI y) : ex ^^^ ey = nI (zq_xor x y) := by
  rw [hx, hy]
  apply zq_ext
  rw [Int32.toBitVec_xor, zq_bv, zq_bv, zq_bv]
  apply BitVec.eq_of_toNat_eq
  rw [BitVec.toNat_xor, BitVec.toNat_ofNat, BitVec.toNat_ofNat, BitVec.toNat_ofNat]
  show _ = ((x ^^^ y) % 2 ^ 32) % 2 ^ 32
  rw [Nat.mod_mod, Nat.xor_mod_two_pow]
theorem zq_nift {b : Bool} {x y : Nat} (h : b = true) : zq_nif b x y = x := by rw [h]; rfl
theorem zq_niff {b : Bool} {x y : Nat} (h : b = false) : zq_nif b x y = y := by rw [h]; rfl
/-- a fast answer where b holds, the very operation elsewhere -/
theorem zq_nifc {b : Bool} {x y : Nat} {e : Int32} (h1 : b = true → e = nI x) (h2 : b = false → e = nI y) : e = nI (zq_nif b x y) := by
  cases hb : b
  · exact h2 hb
  · exact h1 hb
theorem zq_mde (x : Nat) : zq_md x = x % 4294967296 := rfl
theorem zq_nm (x : Nat) : nI (zq_md x) = nI x := zq_nmd x
theorem zq_mdl (x : Nat) : zq_md x < 4294967296 := Nat.mod_lt _ (by decide)
theorem zq_hdiv {ex ey : Int32} {x y : Nat} (hx : ex = nI x) (hy : ey = nI y) : ex / ey = nI (zq_div x y) := by
  rw [hx, hy]
  refine zq_nifc (fun h1 => zq_nifc (fun h2 => zq_nifc (fun h3 => ?_) (fun _ => (zq_nie _).symm)) (fun _ => (zq_nie _).symm)) (fun _ => (zq_nie _).symm)
  have a1 : zq_md x ≤ 2147483647 := Nat.le_of_ble_eq_true h1
  have a2 : zq_md y ≤ 2147483647 := Nat.le_of_ble_eq_true h2
  have a3 : 1 ≤ zq_md y := Nat.le_of_ble_eq_true h3
  rw [← zq_nm x, ← zq_nm y]
  exact pk_div (by omega) (by omega) (by omega)
theorem zq_sm : ∀ m, m < 32 → ((BitVec.ofNat 32 m).smod 32).toNat = m := by decide
theorem zq_s31 (s : Nat) : ((nI s &&& 31).toBitVec.smod 32).toNat = s % 32 := by
  have h : (nI s &&& 31).toBitVec = BitVec.ofNat 32 (s % 32) := by
    rw [Int32.toBitVec_and, zq_bv]
    apply BitVec.eq_of_toNat_eq
    rw [BitVec.toNat_and, BitVec.toNat_ofNat, BitVec.toNat_ofNat]
    show (s % 2 ^ 32) &&& (2 ^ 5 - 1) = _
    rw [Nat.and_two_pow_sub_one_eq_mod]
    omega
  rw [h]
  exact zq_sm _ (Nat.mod_lt _ (by decide))
theorem zq_hshl {ex ey : Int32} {x y : Nat} (hx : ex = nI x) (hy : ey = nI y) : ex <<< (ey &&& 31) = nI (zq_shl x y) := by
  rw [hx, hy]
  apply zq_ext
  rw [zq_bv]
  apply BitVec.eq_of_toNat_eq
  rw [pk_shl _ _ _ (zq_s31 y), zq_bv, BitVec.toNat_ofNat, BitVec.toNat_ofNat]
  show _ = ((x <<< (y % 32)) % 2 ^ 32) % 2 ^ 32
  rw [Nat.mod_mod, Nat.shiftLeft_eq, Nat.mod_mul_mod]
theorem zq_hshr {ex ey : Int32} {x y : Nat} (hx : ex = nI x) (hy : ey = nI y) : ex >>> (ey &&& 31) = nI (zq_shr x y) := by
  rw [hx, hy]
  refine zq_nifc (fun h1 => ?_) (fun _ => (zq_nie _).symm)
  have a1 : zq_md x ≤ 2147483647 := Nat.le_of_ble_eq_true h1
  rw [← zq_nm x, pk_shrN (by omega) _ _ (zq_s31 y)]
  congr 1
  exact (Nat.shiftRight_eq_div_pow _ _).symm
theorem zq_ti (x : Nat) : (nI x).toInt = (zq_bi x : Int) - 2147483648 := by
  have h : (nI x).toInt = (x : Int).bmod Int32.size := Int32.toInt_ofNat
  have hs : (Int32.size : Int) = 4294967296 := rfl
  have hb : zq_bi x = (x + 2147483648) % 4294967296 := rfl
  rw [h, hb, Int.bmod_def]
  have hs' : Int32.size = 4294967296 := rfl
  rw [hs']
  split <;> omega
theorem zq_cle {ex ey : Int32} {x y : Nat} (hx : ex = nI x) (hy : ey = nI y) : zq_le x y = true ↔ ex ≤ ey := by
  rw [hx, hy, Int32.le_iff_toInt_le, zq_ti, zq_ti]
  constructor
  · intro h
    have := Nat.le_of_ble_eq_true h
    omega
  · intro h
    exact Nat.ble_eq_true_of_le (by omega)
theorem zq_clt {ex ey : Int32} {x y : Nat} (hx : ex = nI x) (hy : ey = nI y) : zq_lt x y = true ↔ ex < ey := by
  rw [hx, hy, Int32.lt_iff_toInt_lt, zq_ti, zq_ti]
  constructor
  · intro h
    have := Nat.le_of_ble_eq_true h
    omega
  · intro h
    exact Nat.ble_eq_true_of_le (by omega)
theorem zq_inj {x y : Nat} : nI x = nI y ↔ zq_md x = zq_md y := by
  constructor
  · intro h
    have h2 : (nI x).toBitVec.toNat = (nI y).toBitVec.toNat := by rw [h]
    rw [zq_bv, zq_bv, BitVec.toNat_ofNat, BitVec.toNat_ofNat] at h2
    exact h2
  · intro h
    rw [← zq_nm x, ← zq_nm y, h]
theorem zq_ceq {ex ey : Int32} {x y : Nat} (hx : ex = nI x) (hy : ey = nI y) : zq_eq x y = true ↔ ex = ey := by
  rw [hx, hy, zq_inj]
  constructor
  · intro h
    exact Nat.eq_of_beq_eq_true h
  · intro h
    unfold zq_eq
    rw [h]
    exact Nat.beq_refl _
theorem zq_clamp (i : Nat) : (nI i).toNatClampNeg = zq_cl i := by
  have h : (nI i).toNatClampNeg = (nI i).toInt.toNat := rfl
  rw [h, zq_ti]
  have hm := zq_mdl i
  have hb : zq_bi i = (i + 2147483648) % 4294967296 := rfl
  have hd : zq_md i = i % 4294967296 := rfl
  unfold zq_cl
  cases hc : Nat.ble (zq_md i) (nat_lit 2147483647)
  · have : ¬ zq_md i ≤ 2147483647 := fun z => by rw [Nat.ble_eq_true_of_le z] at hc; exact absurd hc (by decide)
    show _ = 0
    omega
  · have : zq_md i ≤ 2147483647 := Nat.le_of_ble_eq_true hc
    show _ = zq_md i
    omega
theorem zq_hi8 {ex : Int32} {x : Nat} (hx : ex = nI x) : ex.toInt8.toInt32 = nI (zq_i8 x) := by
  rw [hx]
  have key : ∀ m : Nat, m < 4294967296 → (m ≤ 127 ∨ 4294967168 ≤ m) → (nI m).toInt8.toInt32 = nI m := by
    intro m hm h
    apply Int32.toInt_inj.mp
    rw [Int8.toInt_toInt32, Int32.toInt_toInt8, zq_ti]
    have hb : zq_bi m = (m + 2147483648) % 4294967296 := rfl
    rw [hb, Int.bmod_def]
    split <;> omega
  refine zq_nifc (fun h1 => ?_) (fun _ => zq_nifc (fun h2 => ?_) (fun _ => (zq_nie _).symm))
  · rw [← zq_nm x]
    exact key _ (zq_mdl x) (Or.inl (Nat.le_of_ble_eq_true h1))
  · rw [← zq_nm x]
    exact key _ (zq_mdl x) (Or.inr (Nat.le_of_ble_eq_true h2))
theorem zq_hi16 {ex : Int32} {x : Nat} (hx : ex = nI x) : ex.toInt16.toInt32 = nI (zq_i16 x) := by
  rw [hx]
  have key : ∀ m : Nat, m < 4294967296 → (m ≤ 32767 ∨ 4294934528 ≤ m) → (nI m).toInt16.toInt32 = nI m := by
    intro m hm h
    apply Int32.toInt_inj.mp
    rw [Int16.toInt_toInt32, Int32.toInt_toInt16, zq_ti]
    have hb : zq_bi m = (m + 2147483648) % 4294967296 := rfl
    rw [hb, Int.bmod_def]
    split <;> omega
  refine zq_nifc (fun h1 => ?_) (fun _ => zq_nifc (fun h2 => ?_) (fun _ => (zq_nie _).symm))
  · rw [← zq_nm x]
    exact key _ (zq_mdl x) (Or.inl (Nat.le_of_ble_eq_true h1))
  · rw [← zq_nm x]
    exact key _ (zq_mdl x) (Or.inr (Nat.le_of_ble_eq_true h2))
theorem zq_hnb {ex : Int32} {x : Nat} (hx : ex = nI x) : vp_nar .byte ex = nI (zq_i8 x) := zq_hi8 hx
theorem zq_hbo {ex : Int32} {x : Nat} (hx : ex = nI x) : vp_nar .boolean ex = nI (zq_bo x) := zq_hand (ey := 1) hx rfl
/-! the arrays -/
theorem zq_rd {A : Nat} {e : Int32} {i : Nat} (h : e = nI i) : zq_g A e.toNatClampNeg = nI (zq_get A (zq_cl i)) := by
  rw [h, zq_clamp]; rfl
theorem zq_gb (A i m : Nat) : (zq_get A i).testBit m = (decide (m < 32) && A.testBit (32 * i + m)) := by
  show ((A >>> (32 * i)) % 2 ^ 32).testBit m = _
  rw [Nat.testBit_mod_two_pow, Nat.testBit_shiftRight]
theorem zq_gl (A i : Nat) : zq_get A i < 4294967296 := Nat.mod_lt _ (by decide)
theorem zq_gs (A i v j : Nat) : zq_get (zq_set A i v) j = if j = i then zq_md v else zq_get A j := by
  apply Nat.eq_of_testBit_eq
  intro m
  have hs : zq_set A i v = A ^^^ ((zq_get A i ^^^ zq_md v) <<< (32 * i)) := rfl
  have hv : ∀ m, 32 ≤ m → (zq_md v).testBit m = false := fun m hm => Nat.testBit_lt_two_pow (Nat.lt_of_lt_of_le (show zq_md v < 2 ^ 32 from zq_mdl v) (Nat.pow_le_pow_right (by decide) hm))
  rw [zq_gb, hs, Nat.testBit_xor, Nat.testBit_shiftLeft, Nat.testBit_xor, zq_gb]
  by_cases hm : m < 32
  · by_cases hj : j = i
    · subst hj
      rw [if_pos rfl]
      have e1 : 32 * j + m - 32 * j = m := by omega
      have e2 : 32 * j ≤ 32 * j + m := by omega
      rw [e1]
      simp [hm, e2]
    · rw [if_neg hj, zq_gb]
      by_cases hl : 32 * i ≤ 32 * j + m
      · have e3 : ¬ (32 * j + m - 32 * i < 32) := by omega
        rw [hv _ (by omega)]
        simp [hm, e3]
      · simp [hm, hl]
  · by_cases hj : j = i
    · rw [if_pos hj, hv m (by omega)]
      simp [hm]
    · rw [if_neg hj, zq_gb]
      simp [hm]
theorem zq_us {A i v : Nat} : upd (zq_g A) i (nI v) = zq_g (zq_set A i v) := by
  funext j
  show (if j = i then nI v else nI (zq_get A j)) = nI (zq_get (zq_set A i v) j)
  rw [zq_gs]
  split
  · exact (zq_nm v).symm
  · rfl
theorem zq_g0 : zq_g (nat_lit 0) = fun _ => 0 := by
  funext j
  show nI (((0 : Nat) >>> (32 * j)) % 4294967296) = 0
  rw [Nat.zero_shiftRight]
  rfl
/-! the steps -/
theorem zq_br {c A B : Prop} {b x y : Bool} (h : zq_if b x y = true) (hc : b = true ↔ c) (hA : x = true → A) (hB : y = true → B) : (c → A) ∧ (¬ c → B) := by
  cases hb : b
  · rw [hb] at h hc
    exact ⟨fun z => absurd (hc.mpr z) Bool.false_ne_true, fun _ => hB h⟩
  · rw [hb] at h hc
    exact ⟨fun _ => hA h, fun z => absurd (hc.mp rfl) z⟩
theorem zq_ly {e : Int32} {v : Nat} {k : Nat → Bool} {P : Int32 → Prop} (h : zq_fc v k = true) (he : e = nI v) (hP : ∀ y : Nat, k y = true → P (nI y)) : ∀ y : Int32, y = e → P y := by
  intro y hy
  rw [hy, he]
  exact hP v (zq_fe h)
theorem zq_up {A i v : Nat} {e1 e2 : Int32} {k : Nat → Bool} {P : (Nat → Int32) → Prop} (h : zq_fc (zq_set A (zq_cl i) v) k = true) (h1 : e1 = nI i) (h2 : e2 = nI v) (hP : ∀ B : Nat, k B = true → P (zq_g B)) : ∀ a : Nat → Int32, a = upd (zq_g A) e1.toNatClampNeg e2 → P a := by
  intro a ha
  rw [ha, h1, h2, zq_clamp, zq_us]
  exact hP _ (zq_fe h)
theorem zq_up0 {A i v : Nat} {e2 : Int32} {k : Nat → Bool} {P : (Nat → Int32) → Prop} (h : zq_fc (zq_set A i v) k = true) (h2 : e2 = nI v) (hP : ∀ B : Nat, k B = true → P (zq_g B)) : ∀ a : Nat → Int32, a = upd (zq_g A) i e2 → P a := by
  intro a ha
  rw [ha, h2, zq_us]
  exact hP _ (zq_fe h)
theorem zq_ivp {i n : Nat} (hn : n ≤ 2147483648) (h : zq_in i n = true) : vp_in (nI i) n := by
  have := Nat.le_of_ble_eq_true h
  rw [← zq_nm i]
  rw [vp_in_iff, zq_ti]
  have hb : zq_bi (zq_md i) = (zq_md i + 2147483648) % 4294967296 := rfl
  have hm := zq_mdl i
  omega
theorem zq_vi {e : Int32} {i n : Nat} {x : Bool} {R : Prop} (h : zq_if (zq_in i n) x false = true) (he : e = nI i) (hn : n ≤ 2147483648) (hR : x = true → R) : vp_in e n ∧ R := by
  cases hb : zq_in i n
  · rw [hb] at h
    exact absurd h Bool.false_ne_true
  · rw [hb] at h
    rw [he]
    exact ⟨zq_ivp hn hb, hR h⟩
theorem zq_nz {e : Int32} {v : Nat} {x : Bool} {R : Prop} (h : zq_if (zq_eq v (nat_lit 0)) false x = true) (he : e = nI v) (hR : x = true → R) : ¬ e = 0 ∧ R := by
  cases hb : zq_eq v (nat_lit 0)
  · rw [hb] at h
    refine ⟨fun z => ?_, hR h⟩
    rw [(zq_ceq (ey := 0) (y := 0) he rfl).mpr z] at hb
    exact absurd hb (by decide)
  · rw [hb] at h
    exact absurd h Bool.false_ne_true
end
section
/-! Filling and copying a whole array at once; the cells that hold 100. -/
theorem zq_ift {b x : Bool} (h : zq_if b x false = true) : b = true ∧ x = true := by
  cases hb : b
  · rw [hb] at h; exact absurd h Bool.false_ne_true
  · rw [hb] at h; exact ⟨rfl, h⟩
theorem zq_iff {b x : Bool} (h : zq_if b false x = true) : ¬ b = true ∧ x = true := by
  cases hb : b
  · rw [hb] at h; exact ⟨Bool.false_ne_true, h⟩
  · rw [hb] at h; exact absurd h Bool.false_ne_true
theorem zq_ifT {b x y : Bool} (h : zq_if b x y = true) (hb : b = true) : x = true := by
  rw [hb] at h; exact h
theorem zq_ifF {b x y : Bool} (h : zq_if b x y = true) (hb : ¬ b = true) : y = true := by
  cases hc : b
  · rw [hc] at h; exact h
  · exact absurd hc hb
def zq_c100 : Nat := Nat.mul (nat_lit 100) (Nat.div (Nat.sub (Nat.pow (nat_lit 2) (nat_lit 41472)) (nat_lit 1)) (nat_lit 4294967295))
def zq_c127 : Nat := Nat.mul (nat_lit 127) (Nat.div (Nat.sub (Nat.pow (nat_lit 2) (nat_lit 41472)) (nat_lit 1)) (nat_lit 4294967295))
/-- does f hold of every number below n -/
noncomputable def zq_all (f : Nat → Bool) : Nat → Bool := fun n => @Nat.rec (fun _ => Bool) true (fun k ih => zq_if (f k) ih false) n
theorem zq_alle {f : Nat → Bool} : ∀ {n : Nat}, zq_all f n = true → ∀ j, j < n → f j = true := by
  intro n
  induction n with
  | zero => intro _ j hj; exact absurd hj (Nat.not_lt_zero j)
  | succ n ih =>
    intro h j hj
    obtain ⟨h1, h2⟩ := zq_ift h
    by_cases e : j = n
    · rw [e]; exact h1
    · exact ih h2 j (by omega)
theorem zq_a100 : zq_all (fun j => Nat.beq (zq_get zq_c100 j) (nat_lit 100)) 1296 = true := by decide +kernel
theorem zq_a127 : zq_all (fun j => Nat.beq (zq_get zq_c127 j) (nat_lit 127)) 1296 = true := by decide +kernel
theorem zq_t100 : Nat.beq (Nat.shiftRight zq_c100 (nat_lit 41472)) (nat_lit 0) = true := by decide +kernel
theorem zq_e100 {j : Nat} (hj : j < 1296) : zq_get zq_c100 j = 100 := Nat.eq_of_beq_eq_true (zq_alle zq_a100 j hj)
theorem zq_e127 {j : Nat} (hj : j < 1296) : zq_get zq_c127 j = 127 := Nat.eq_of_beq_eq_true (zq_alle zq_a127 j hj)
theorem zq_k100 {j : Nat} (hj : j < 1296) : zq_g zq_c100 j = 100 := by
  show nI (zq_get zq_c100 j) = 100
  rw [zq_e100 hj]
  rfl
theorem zq_hi {A j : Nat} (h : Nat.beq (Nat.shiftRight A (nat_lit 41472)) (nat_lit 0) = true) (hj : 1296 ≤ j) : zq_g A j = 0 := by
  have e : A >>> 41472 = 0 := Nat.eq_of_beq_eq_true h
  show nI ((A >>> (32 * j)) % 4294967296) = 0
  rw [show 32 * j = 41472 + (32 * j - 41472) by omega, Nat.shiftRight_add, e, Nat.zero_shiftRight]
  rfl
theorem zq_gand (A C j : Nat) : zq_get (Nat.land A C) j = zq_get A j &&& zq_get C j := by
  apply Nat.eq_of_testBit_eq
  intro m
  rw [Nat.testBit_and, zq_gb, zq_gb, zq_gb]
  have : (Nat.land A C).testBit (32 * j + m) = ((A &&& C).testBit (32 * j + m)) := rfl
  rw [this, Nat.testBit_and]
  cases decide (m < 32) <;> simp
theorem zq_byt {A j : Nat} (h : Nat.beq (Nat.land A zq_c127) A = true) (hj : j < 1296) : zq_g A j = vp_nar .byte (zq_g A (nI j).toNatClampNeg) := by
  have e := Nat.eq_of_beq_eq_true h
  have h1 : zq_get A j ≤ 127 := by
    have : zq_get A j = zq_get A j &&& 127 := by
      have h2 := zq_gand A zq_c127 j
      rw [e, zq_e127 hj] at h2
      exact h2
    rw [this]
    exact Nat.and_le_right
  rw [nI_clamp (by omega)]
  have h3 : zq_md (zq_get A j) = zq_get A j := Nat.mod_eq_of_lt (zq_gl A j)
  have h4 : zq_i8 (zq_get A j) = zq_get A j := by
    unfold zq_i8
    rw [h3]
    exact zq_nift (Nat.ble_eq_true_of_le h1)
  have h5 : vp_nar .byte (zq_g A j) = nI (zq_i8 (zq_get A j)) := zq_hnb rfl
  rw [h5, h4]
  rfl
theorem zq_gx {A C j : Nat} (h : ∀ m, m < 32 → (Nat.xor A C).testBit (32 * j + m) = false) : zq_get A j = zq_get C j := by
  apply Nat.eq_of_testBit_eq
  intro m
  rw [zq_gb, zq_gb]
  by_cases hm : m < 32
  · have h1 := h m hm
    have : (Nat.xor A C).testBit (32 * j + m) = ((A ^^^ C).testBit (32 * j + m)) := rfl
    rw [this, Nat.testBit_xor] at h1
    have h2 : A.testBit (32 * j + m) = C.testBit (32 * j + m) := by
      revert h1
      cases A.testBit (32 * j + m) <;> cases C.testBit (32 * j + m) <;> decide
    rw [h2]
  · simp [hm]
theorem zq_dm {A x d j : Nat} (h : Nat.mod (Nat.shiftRight (Nat.xor A zq_c100) (Nat.mul (nat_lit 32) x)) (Nat.shiftLeft (nat_lit 1) (Nat.mul (nat_lit 32) d)) = 0) (h1 : x ≤ j) (h2 : j < x + d ∧ j < 1296) : zq_get A j = 100 := by
  rw [← zq_e100 h2.2]
  apply zq_gx
  intro m hm
  have h' : ((Nat.xor A zq_c100) >>> (32 * x)) % 2 ^ (32 * d) = 0 := by
    have : (1 : Nat) <<< (32 * d) = 2 ^ (32 * d) := by rw [Nat.shiftLeft_eq, Nat.one_mul]
    rw [← this]
    exact h
  have h3 : (((Nat.xor A zq_c100) >>> (32 * x)) % 2 ^ (32 * d)).testBit (32 * (j - x) + m) = false := by rw [h']; exact Nat.zero_testBit _
  rw [Nat.testBit_mod_two_pow, Nat.testBit_shiftRight] at h3
  have e1 : 32 * (j - x) + m < 32 * d := by omega
  have e2 : 32 * x + (32 * (j - x) + m) = 32 * j + m := by omega
  rw [e2] at h3
  simpa [e1] using h3
theorem zq_dz {A x j : Nat} (h : Nat.shiftRight (Nat.xor A zq_c100) (Nat.mul (nat_lit 32) x) = 0) (h1 : x ≤ j) (h2 : j < 1296) : zq_get A j = 100 := by
  refine zq_dm (x := x) (d := 1296) (j := j) ?_ h1 ⟨by omega, h2⟩
  rw [h]
  exact Nat.zero_mod _
theorem zq_fill {N : Nat} (hN : N < 2 ^ 31) {W : Nat → Int32 → (Nat → Int32) → Prop} {E : (Nat → Int32) → Prop} {val : Int32 → Int32}
    (hW : ∀ n x a, ((nI N ≤ x → E a) ∧ (¬ nI N ≤ x → vp_in x N ∧ ∀ a' : Nat → Int32, a' = upd a x.toNatClampNeg (val x) → ∀ x' : Int32, x' = x + 1 → W n x' a')) → W (n + 1) x a)
    (a b : Nat → Int32) (hb : ∀ j, j < N → b j = val (nI j)) (hab : ∀ j, N ≤ j → a j = b j) (hE : E b) : W (N + 1) (nI 0) a := by
  have key : ∀ d i (s : Nat → Int32), i + d = N → (∀ j, j < i → s j = b j) → (∀ j, N ≤ j → s j = b j) → W (d + 1) (nI i) s := by
    intro d
    induction d with
    | zero =>
      intro i s hi h1 h2
      have e : s = b := by
        funext j
        by_cases hj : j < i
        · exact h1 j hj
        · exact h2 j (by omega)
      rw [e]
      refine hW 0 _ _ ⟨fun _ => hE, fun c => absurd (nI_le (a := N) (b := i) (by omega) (by omega)) c⟩
    | succ d ih =>
      intro i s hi h1 h2
      refine hW (d + 1) _ _ ⟨fun c => absurd c (nI_ge (by omega) hN), fun _ => ⟨vp_in_nI (by omega) hN, fun s' es x' ex => ?_⟩⟩
      rw [ex, nI_1, es, nI_clamp (by omega)]
      refine ih (i + 1) _ (by omega) (fun j hj => ?_) (fun j hj => ?_)
      · by_cases e : j = i
        · rw [e, pk_us, hb i (by omega)]
        · rw [pk_un e]
          exact h1 j (by omega)
      · rw [pk_un (show j ≠ i by omega)]
        exact h2 j hj
  exact key N 0 a (by omega) (fun j hj => absurd hj (Nat.not_lt_zero j)) hab
/-- looks for the lowest cell that isn't 0, by halves; what it finds is checked elsewhere -/
noncomputable def zq_lo : Nat → Nat → Nat → (Nat → Bool) → Bool := fun j => @Nat.rec (fun _ => Nat → Nat → (Nat → Bool) → Bool) (fun _ d k => k d) (fun j ih => fun D d k =>
  zq_if (Nat.beq (Nat.mod D (Nat.shiftLeft (nat_lit 1) (Nat.shiftLeft (nat_lit 32) j))) (nat_lit 0)) (zq_fc (Nat.shiftRight D (Nat.shiftLeft (nat_lit 32) j)) (fun D2 => zq_fc (Nat.add d (Nat.shiftLeft (nat_lit 1) j)) (fun d2 => ih D2 d2 k))) (ih D d k)) j
theorem zq_los {k : Nat → Bool} (j : Nat) : ∀ D d, zq_lo j D d k = true → ∃ d, k d = true := by
  induction j with
  | zero => intro D d h; exact ⟨d, h⟩
  | succ j ih =>
    intro D d h
    have h : zq_if (Nat.beq (Nat.mod D (Nat.shiftLeft (nat_lit 1) (Nat.shiftLeft (nat_lit 32) j))) (nat_lit 0)) (zq_fc (Nat.shiftRight D (Nat.shiftLeft (nat_lit 32) j)) (fun D2 => zq_fc (Nat.add d (Nat.shiftLeft (nat_lit 1) j)) (fun d2 => zq_lo j D2 d2 k))) (zq_lo j D d k) = true := h
    by_cases c : Nat.beq (Nat.mod D (Nat.shiftLeft (nat_lit 1) (Nat.shiftLeft (nat_lit 32) j))) (nat_lit 0) = true
    · have h := zq_ifT h c
      have h := zq_fe h
      have h := zq_fe h
      exact ih _ _ h
    · exact ih _ _ (zq_ifF h c)
/-! the same for 1024 cells of 0 and 1 -/
def zq_c1 : Nat := Nat.div (Nat.sub (Nat.pow (nat_lit 2) (nat_lit 32768)) (nat_lit 1)) (nat_lit 4294967295)
theorem zq_a1 : zq_all (fun j => Nat.beq (zq_get zq_c1 j) (nat_lit 1)) 1024 = true := by decide +kernel
theorem zq_e1 {j : Nat} (hj : j < 1024) : zq_get zq_c1 j = 1 := Nat.eq_of_beq_eq_true (zq_alle zq_a1 j hj)
theorem zq_hi2 {A j : Nat} (h : Nat.beq (Nat.shiftRight A (nat_lit 32768)) (nat_lit 0) = true) (hj : 1024 ≤ j) : zq_g A j = 0 := by
  have e : A >>> 32768 = 0 := Nat.eq_of_beq_eq_true h
  show nI ((A >>> (32 * j)) % 4294967296) = 0
  rw [show 32 * j = 32768 + (32 * j - 32768) by omega, Nat.shiftRight_add, e, Nat.zero_shiftRight]
  rfl
theorem zq_bot {A j : Nat} (h : Nat.beq (Nat.land A zq_c1) A = true) (hj : j < 1024) : zq_g A j = vp_nar .boolean (zq_g A (nI j).toNatClampNeg) := by
  have e := Nat.eq_of_beq_eq_true h
  have h1 : zq_get A j = zq_get A j &&& 1 := by
    have h2 := zq_gand A zq_c1 j
    rw [e, zq_e1 hj] at h2
    exact h2
  rw [nI_clamp (by omega)]
  have h5 : vp_nar .boolean (zq_g A j) = nI (zq_bo (zq_get A j)) := zq_hbo rfl
  have h6 : zq_bo (zq_get A j) = (zq_get A j &&& 1) % 4294967296 := rfl
  rw [h5, h6, ← h1, zq_nmd]
  rfl
theorem zq_g00 {j : Nat} : zq_g (nat_lit 0) j = 0 := by rw [zq_g0]
theorem zq_one (j : Nat) : zq_g (nat_lit 1) j = if nI j = 0 ∧ j = 0 then 1 else 0 := by
  by_cases h : j = 0
  · subst h
    rw [if_pos ⟨rfl, rfl⟩]
    rfl
  · rw [if_neg (fun c => h c.2)]
    show nI (((1 : Nat) >>> (32 * j)) % 4294967296) = 0
    rw [Nat.shiftRight_eq_div_pow, Nat.div_eq_of_lt (Nat.one_lt_two_pow (by omega))]
    rfl
theorem zq_one2 {j : Nat} (hj : j < 1024) : zq_g (nat_lit 1) j = (fun x : Int32 => if x = 0 then (1 : Int32) else 0) (nI j) := by
  have h : nI j = 0 ↔ j = 0 := nI_eq (b := 0) (by omega) (by decide)
  rw [zq_one]
  show _ = if nI j = 0 then (1 : Int32) else 0
  by_cases c : j = 0
  · rw [if_pos ⟨h.mpr c, c⟩, if_pos (h.mpr c)]
  · rw [if_neg (fun z => c z.2), if_neg (fun z => c (h.mp z))]
end
section
/-! printed by gen.py: wL_order_31 .. wpX_moveUp -/
noncomputable def zb_L_order_31 (kp : Nat → Bool) (kJ14 : Nat → Nat → Nat → Nat → Nat → Bool) (x1 : Nat) (x2 : Nat) (x3 : Nat) (x4 : Nat) (x5 : Nat) : Nat → Nat → Nat → Nat → Bool := fun fu => @Nat.rec (fun _ => Nat → Nat → Nat → Bool) (fun _ _ _ => false) (fun _ ih => fun x6 x7 x8 =>
        zq_if (zq_le (nat_lit 5) x8)
        (zq_fc (zq_add (zq_mul (nat_lit 5) x3) x7) (fun x3_5 => zq_fc (zq_and x2 (zq_xor (zq_shl (nat_lit 1) x7) (nat_lit 4294967295))) (fun x2_6 => zq_if (zq_eq x4 (nat_lit 0)) false
        (zq_fc (zq_sub x1 (zq_mul (zq_div x1 x4) x4)) (fun x1_8 => zq_if (zq_le x5 (nat_lit 1))
        (zq_fc (zq_add x5 (nat_lit 4294967295)) (fun x5_10 => kJ14 x1_8 x2_6 x3_5 (nat_lit 1) x5_10))
        (zq_if (zq_eq x5 (nat_lit 0)) false
        (zq_fc (zq_div x4 x5) (fun x4_12 => zq_fc (zq_add x5 (nat_lit 4294967295)) (fun x5_13 => kJ14 x1_8 x2_6 x3_5 x4_12 x5_13)))))))))
        (zq_if (zq_eq (zq_and (zq_shr x2 x8) (nat_lit 1)) (nat_lit 1))
        (zq_if (zq_eq x6 (nat_lit 0))
        (zq_if (zq_le (nat_lit 0) x7)
        (zq_fc (zq_add x6 (nat_lit 4294967295)) (fun x6_20 => zq_fc (zq_add x8 (nat_lit 1)) (fun x8_21 => ih x6_20 x7 x8_21)))
        (zq_fc (zq_add x6 (nat_lit 4294967295)) (fun x6_22 => zq_fc (zq_add x8 (nat_lit 1)) (fun x8_23 => ih x6_22 x8 x8_23))))
        (zq_fc (zq_add x6 (nat_lit 4294967295)) (fun x6_17 => zq_fc (zq_add x8 (nat_lit 1)) (fun x8_18 => ih x6_17 x7 x8_18))))
        (zq_fc (zq_add x8 (nat_lit 1)) (fun x8_15 => ih x6 x7 x8_15)))) fu
theorem zr_L_order_31 {post : Int32 → Prop} {J14 : Int32 → Int32 → Int32 → Int32 → Int32 → Prop} {kp : Nat → Bool} {kJ14 : Nat → Nat → Nat → Nat → Nat → Bool} {x1 : Nat} {x2 : Nat} {x3 : Nat} {x4 : Nat} {x5 : Nat} (hp : ∀ r : Nat, kp r = true → post (nI r)) (hJ14 : ∀ y_x1 y_x2 y_x3 y_x4 y_x5 : Nat, kJ14 y_x1 y_x2 y_x3 y_x4 y_x5 = true → J14 (nI y_x1) (nI y_x2) (nI y_x3) (nI y_x4) (nI y_x5)) (fu : Nat) : ∀ (x6 : Nat) (x7 : Nat) (x8 : Nat) (e_x6 : Int32) (e_x7 : Int32) (e_x8 : Int32), zb_L_order_31 kp kJ14 x1 x2 x3 x4 x5 fu x6 x7 x8 = true → e_x6 = nI x6 → e_x7 = nI x7 → e_x8 = nI x8 → wL_order_31 post J14 (nI x1) (nI x2) (nI x3) (nI x4) (nI x5) fu e_x6 e_x7 e_x8 := by
  induction fu with
  | zero => intro x6 x7 x8 e_x6 e_x7 e_x8 h q_x6 q_x7 q_x8; exact absurd h Bool.false_ne_true
  | succ n ih =>
    intro x6 x7 x8 e_x6 e_x7 e_x8 h q_x6 q_x7 q_x8
    subst q_x6; subst q_x7; subst q_x8; have h : (zq_if (zq_le (nat_lit 5) x8)
        (zq_fc (zq_add (zq_mul (nat_lit 5) x3) x7) (fun x3_5 => zq_fc (zq_and x2 (zq_xor (zq_shl (nat_lit 1) x7) (nat_lit 4294967295))) (fun x2_6 => zq_if (zq_eq x4 (nat_lit 0)) false
        (zq_fc (zq_sub x1 (zq_mul (zq_div x1 x4) x4)) (fun x1_8 => zq_if (zq_le x5 (nat_lit 1))
        (zq_fc (zq_add x5 (nat_lit 4294967295)) (fun x5_10 => kJ14 x1_8 x2_6 x3_5 (nat_lit 1) x5_10))
        (zq_if (zq_eq x5 (nat_lit 0)) false
        (zq_fc (zq_div x4 x5) (fun x4_12 => zq_fc (zq_add x5 (nat_lit 4294967295)) (fun x5_13 => kJ14 x1_8 x2_6 x3_5 x4_12 x5_13)))))))))
        (zq_if (zq_eq (zq_and (zq_shr x2 x8) (nat_lit 1)) (nat_lit 1))
        (zq_if (zq_eq x6 (nat_lit 0))
        (zq_if (zq_le (nat_lit 0) x7)
        (zq_fc (zq_add x6 (nat_lit 4294967295)) (fun x6_20 => zq_fc (zq_add x8 (nat_lit 1)) (fun x8_21 => (zb_L_order_31 kp kJ14 x1 x2 x3 x4 x5 n) x6_20 x7 x8_21)))
        (zq_fc (zq_add x6 (nat_lit 4294967295)) (fun x6_22 => zq_fc (zq_add x8 (nat_lit 1)) (fun x8_23 => (zb_L_order_31 kp kJ14 x1 x2 x3 x4 x5 n) x6_22 x8 x8_23))))
        (zq_fc (zq_add x6 (nat_lit 4294967295)) (fun x6_17 => zq_fc (zq_add x8 (nat_lit 1)) (fun x8_18 => (zb_L_order_31 kp kJ14 x1 x2 x3 x4 x5 n) x6_17 x7 x8_18))))
        (zq_fc (zq_add x8 (nat_lit 1)) (fun x8_15 => (zb_L_order_31 kp kJ14 x1 x2 x3 x4 x5 n) x6 x7 x8_15)))) = true := h
    exact zq_br h (zq_cle rfl rfl)
        (fun h => zq_ly h (zq_hadd (zq_hmul rfl rfl) rfl) (fun x3_5 h => zq_ly h (zq_hand rfl (zq_hxor (zq_hshl rfl rfl) zq_m1)) (fun x2_6 h => zq_nz h rfl (fun h => zq_ly h (zq_hsub rfl (zq_hmul (zq_hdiv rfl rfl) rfl)) (fun x1_8 h => zq_br h (zq_cle rfl rfl)
        (fun h => zq_ly h (zq_hadd rfl zq_m1) (fun x5_10 h => hJ14 _ _ _ _ _ h))
        (fun h => zq_nz h rfl (fun h => zq_ly h (zq_hdiv rfl rfl) (fun x4_12 h => zq_ly h (zq_hadd rfl zq_m1) (fun x5_13 h => hJ14 _ _ _ _ _ h)))))))))
        (fun h => zq_br h (zq_ceq (zq_hand (zq_hshr rfl rfl) rfl) rfl)
        (fun h => zq_br h (zq_ceq rfl rfl)
        (fun h => zq_br h (zq_cle rfl rfl)
        (fun h => zq_ly h (zq_hadd rfl zq_m1) (fun x6_20 h => zq_ly h (zq_hadd rfl rfl) (fun x8_21 h => ih _ _ _ _ _ _ h rfl rfl rfl)))
        (fun h => zq_ly h (zq_hadd rfl zq_m1) (fun x6_22 h => zq_ly h (zq_hadd rfl rfl) (fun x8_23 h => ih _ _ _ _ _ _ h rfl rfl rfl))))
        (fun h => zq_ly h (zq_hadd rfl zq_m1) (fun x6_17 h => zq_ly h (zq_hadd rfl rfl) (fun x8_18 h => ih _ _ _ _ _ _ h rfl rfl rfl))))
        (fun h => zq_ly h (zq_hadd rfl rfl) (fun x8_15 h => ih _ _ _ _ _ _ h rfl rfl rfl)))
theorem zs_L_order_31 {post : Int32 → Prop} {J14 : Int32 → Int32 → Int32 → Int32 → Int32 → Prop} {kp : Nat → Bool} {kJ14 : Nat → Nat → Nat → Nat → Nat → Bool} {x1 : Nat} {x2 : Nat} {x3 : Nat} {x4 : Nat} {x5 : Nat} {x6 : Nat} {x7 : Nat} {x8 : Nat} {e_x1 : Int32} {e_x2 : Int32} {e_x3 : Int32} {e_x4 : Int32} {e_x5 : Int32} {e_x6 : Int32} {e_x7 : Int32} {e_x8 : Int32} {fu : Nat} (h : zb_L_order_31 kp kJ14 x1 x2 x3 x4 x5 fu x6 x7 x8 = true) (q_x1 : e_x1 = nI x1) (q_x2 : e_x2 = nI x2) (q_x3 : e_x3 = nI x3) (q_x4 : e_x4 = nI x4) (q_x5 : e_x5 = nI x5) (q_x6 : e_x6 = nI x6) (q_x7 : e_x7 = nI x7) (q_x8 : e_x8 = nI x8) (hp : ∀ r : Nat, kp r = true → post (nI r)) (hJ14 : ∀ y_x1 y_x2 y_x3 y_x4 y_x5 : Nat, kJ14 y_x1 y_x2 y_x3 y_x4 y_x5 = true → J14 (nI y_x1) (nI y_x2) (nI y_x3) (nI y_x4) (nI y_x5)) : wL_order_31 post J14 e_x1 e_x2 e_x3 e_x4 e_x5 fu e_x6 e_x7 e_x8 := by
  subst q_x1; subst q_x2; subst q_x3; subst q_x4; subst q_x5; exact zr_L_order_31 hp hJ14 fu _ _ _ _ _ _ h q_x6 q_x7 q_x8
noncomputable def zb_L_order_14 (kp : Nat → Bool) : Nat → Nat → Nat → Nat → Nat → Nat → Bool := fun fu => @Nat.rec (fun _ => Nat → Nat → Nat → Nat → Nat → Bool) (fun _ _ _ _ _ => false) (fun _ ih => fun x1 x2 x3 x4 x5 =>
        zq_if (zq_lt x5 (nat_lit 0))
        (kp x3)
        (zq_if (zq_eq x4 (nat_lit 0)) false
        (zq_fc (zq_div x1 x4) (fun x6_3 => zb_L_order_31 kp ih x1 x2 x3 x4 x5 40 x6_3 (nat_lit 4294967295) (nat_lit 0))))) fu
theorem zr_L_order_14 {post : Int32 → Prop} {kp : Nat → Bool} (hp : ∀ r : Nat, kp r = true → post (nI r)) (fu : Nat) : ∀ (x1 : Nat) (x2 : Nat) (x3 : Nat) (x4 : Nat) (x5 : Nat) (e_x1 : Int32) (e_x2 : Int32) (e_x3 : Int32) (e_x4 : Int32) (e_x5 : Int32), zb_L_order_14 kp fu x1 x2 x3 x4 x5 = true → e_x1 = nI x1 → e_x2 = nI x2 → e_x3 = nI x3 → e_x4 = nI x4 → e_x5 = nI x5 → wL_order_14 post fu e_x1 e_x2 e_x3 e_x4 e_x5 := by
  induction fu with
  | zero => intro x1 x2 x3 x4 x5 e_x1 e_x2 e_x3 e_x4 e_x5 h q_x1 q_x2 q_x3 q_x4 q_x5; exact absurd h Bool.false_ne_true
  | succ n ih =>
    intro x1 x2 x3 x4 x5 e_x1 e_x2 e_x3 e_x4 e_x5 h q_x1 q_x2 q_x3 q_x4 q_x5
    subst q_x1; subst q_x2; subst q_x3; subst q_x4; subst q_x5; have h : (zq_if (zq_lt x5 (nat_lit 0))
        (kp x3)
        (zq_if (zq_eq x4 (nat_lit 0)) false
        (zq_fc (zq_div x1 x4) (fun x6_3 => zb_L_order_31 kp (zb_L_order_14 kp n) x1 x2 x3 x4 x5 40 x6_3 (nat_lit 4294967295) (nat_lit 0))))) = true := h
    exact zq_br h (zq_clt rfl rfl)
        (fun h => hp _ h)
        (fun h => zq_nz h rfl (fun h => zq_ly h (zq_hdiv rfl rfl) (fun x6_3 h => Exists.intro 40 (zs_L_order_31 h rfl rfl rfl rfl rfl rfl zq_m1 rfl hp (fun y0 y1 y2 y3 y4 h => ih y0 y1 y2 y3 y4 _ _ _ _ _ h rfl rfl rfl rfl rfl)))))
theorem zs_L_order_14 {post : Int32 → Prop} {kp : Nat → Bool} {x1 : Nat} {x2 : Nat} {x3 : Nat} {x4 : Nat} {x5 : Nat} {e_x1 : Int32} {e_x2 : Int32} {e_x3 : Int32} {e_x4 : Int32} {e_x5 : Int32} {fu : Nat} (h : zb_L_order_14 kp fu x1 x2 x3 x4 x5 = true) (q_x1 : e_x1 = nI x1) (q_x2 : e_x2 = nI x2) (q_x3 : e_x3 = nI x3) (q_x4 : e_x4 = nI x4) (q_x5 : e_x5 = nI x5) (hp : ∀ r : Nat, kp r = true → post (nI r)) : wL_order_14 post fu e_x1 e_x2 e_x3 e_x4 e_x5 := by
  exact zr_L_order_14 hp fu _ _ _ _ _ _ _ _ _ _ h q_x1 q_x2 q_x3 q_x4 q_x5
noncomputable def zb_L_order (kp : Nat → Bool) (p0 : Nat) : Bool :=
        zb_L_order_14 kp 40 p0 (nat_lit 31) (nat_lit 0) (nat_lit 24) (nat_lit 4)
theorem zs_L_order {post : Int32 → Prop} {kp : Nat → Bool} {p0 : Nat} {e_p0 : Int32} (h : zb_L_order kp p0 = true) (q_p0 : e_p0 = nI p0) (hp : ∀ r : Nat, kp r = true → post (nI r)) : wpL_order post () e_p0 := by
  subst q_p0; have h : (zb_L_order_14 kp 40 p0 (nat_lit 31) (nat_lit 0) (nat_lit 24) (nat_lit 4)) = true := h
  exact Exists.intro 40 (zs_L_order_14 h rfl rfl rfl rfl rfl hp)
noncomputable def zb_X_isOrder_20 (kp : Nat → Bool) : Nat → Nat → Nat → Nat → Bool := fun fu => @Nat.rec (fun _ => Nat → Nat → Nat → Bool) (fun _ _ _ => false) (fun _ ih => fun x2 x3 x4 =>
        zq_if (zq_le (nat_lit 5) x4)
        (zq_if (zq_eq x2 (nat_lit 31))
        (kp (nat_lit 1))
        (kp (nat_lit 0)))
        (zq_fc (zq_or x2 (zq_shl (nat_lit 1) (zq_sub x3 (zq_mul (zq_div x3 (nat_lit 5)) (nat_lit 5))))) (fun x2_6 => zq_fc (zq_div x3 (nat_lit 5)) (fun x3_8 => zq_fc (zq_add x4 (nat_lit 1)) (fun x4_9 => ih x2_6 x3_8 x4_9))))) fu
theorem zr_X_isOrder_20 {post : Int32 → Prop} {kp : Nat → Bool} {S0 : Int32} {S1 : Int32} {S2 : Int32} {A1 : Nat → Int32} {A2 : Nat → Int32} {A3 : Nat → Int32} {A4 : Nat → Int32} {A5 : Nat → Int32} {A6 : Nat → Int32} {A7 : Nat → Int32} {A8 : Nat → Int32} {A9 : Nat → Int32} {A10 : Nat → Int32} {A11 : Nat → Int32} {A12 : Nat → Int32} {A13 : Nat → Int32} {A14 : Nat → Int32} {A15 : Nat → Int32} {A16 : Nat → Int32} {A17 : Nat → Int32} (hp : ∀ r : Nat, kp r = true → post (nI r)) (fu : Nat) : ∀ (x2 : Nat) (x3 : Nat) (x4 : Nat) (e_x2 : Int32) (e_x3 : Int32) (e_x4 : Int32), zb_X_isOrder_20 kp fu x2 x3 x4 = true → e_x2 = nI x2 → e_x3 = nI x3 → e_x4 = nI x4 → wX_isOrder_20 post S0 S1 S2 A1 A2 A3 A4 A5 A6 A7 A8 A9 A10 A11 A12 A13 A14 A15 A16 A17 fu e_x2 e_x3 e_x4 := by
  induction fu with
  | zero => intro x2 x3 x4 e_x2 e_x3 e_x4 h q_x2 q_x3 q_x4; exact absurd h Bool.false_ne_true
  | succ n ih =>
    intro x2 x3 x4 e_x2 e_x3 e_x4 h q_x2 q_x3 q_x4
    subst q_x2; subst q_x3; subst q_x4; have h : (zq_if (zq_le (nat_lit 5) x4)
        (zq_if (zq_eq x2 (nat_lit 31))
        (kp (nat_lit 1))
        (kp (nat_lit 0)))
        (zq_fc (zq_or x2 (zq_shl (nat_lit 1) (zq_sub x3 (zq_mul (zq_div x3 (nat_lit 5)) (nat_lit 5))))) (fun x2_6 => zq_fc (zq_div x3 (nat_lit 5)) (fun x3_8 => zq_fc (zq_add x4 (nat_lit 1)) (fun x4_9 => (zb_X_isOrder_20 kp n) x2_6 x3_8 x4_9))))) = true := h
    exact zq_br h (zq_cle rfl rfl)
        (fun h => zq_br h (zq_ceq rfl rfl)
        (fun h => hp _ h)
        (fun h => hp _ h))
        (fun h => And.intro (by decide) (zq_ly h (zq_hor rfl (zq_hshl rfl (zq_hsub rfl (zq_hmul (zq_hdiv rfl rfl) rfl)))) (fun x2_6 h => And.intro (by decide) (zq_ly h (zq_hdiv rfl rfl) (fun x3_8 h => zq_ly h (zq_hadd rfl rfl) (fun x4_9 h => ih _ _ _ _ _ _ h rfl rfl rfl))))))
theorem zs_X_isOrder_20 {post : Int32 → Prop} {kp : Nat → Bool} {x2 : Nat} {x3 : Nat} {x4 : Nat} {S0 : Int32} {S1 : Int32} {S2 : Int32} {A1 : Nat → Int32} {A2 : Nat → Int32} {A3 : Nat → Int32} {A4 : Nat → Int32} {A5 : Nat → Int32} {A6 : Nat → Int32} {A7 : Nat → Int32} {A8 : Nat → Int32} {A9 : Nat → Int32} {A10 : Nat → Int32} {A11 : Nat → Int32} {A12 : Nat → Int32} {A13 : Nat → Int32} {A14 : Nat → Int32} {A15 : Nat → Int32} {A16 : Nat → Int32} {A17 : Nat → Int32} {e_x2 : Int32} {e_x3 : Int32} {e_x4 : Int32} {fu : Nat} (h : zb_X_isOrder_20 kp fu x2 x3 x4 = true) (q_x2 : e_x2 = nI x2) (q_x3 : e_x3 = nI x3) (q_x4 : e_x4 = nI x4) (hp : ∀ r : Nat, kp r = true → post (nI r)) : wX_isOrder_20 post S0 S1 S2 A1 A2 A3 A4 A5 A6 A7 A8 A9 A10 A11 A12 A13 A14 A15 A16 A17 fu e_x2 e_x3 e_x4 := by
  exact zr_X_isOrder_20 hp fu _ _ _ _ _ _ h q_x2 q_x3 q_x4
noncomputable def zb_X_isOrder (kp : Nat → Bool) (p0 : Nat) : Bool :=
        zq_if (zq_lt p0 (nat_lit 0))
        (kp (nat_lit 0))
        (zq_if (zq_le p0 (nat_lit 3124))
        (zb_X_isOrder_20 kp 40 (nat_lit 0) p0 (nat_lit 0))
        (kp (nat_lit 0)))
theorem zs_X_isOrder {post : Int32 → Prop} {kp : Nat → Bool} {p0 : Nat} {S0 : Int32} {S1 : Int32} {S2 : Int32} {A1 : Nat → Int32} {A2 : Nat → Int32} {A3 : Nat → Int32} {A4 : Nat → Int32} {A5 : Nat → Int32} {A6 : Nat → Int32} {A7 : Nat → Int32} {A8 : Nat → Int32} {A9 : Nat → Int32} {A10 : Nat → Int32} {A11 : Nat → Int32} {A12 : Nat → Int32} {A13 : Nat → Int32} {A14 : Nat → Int32} {A15 : Nat → Int32} {A16 : Nat → Int32} {A17 : Nat → Int32} {e_p0 : Int32} (h : zb_X_isOrder kp p0 = true) (q_p0 : e_p0 = nI p0) (hp : ∀ r : Nat, kp r = true → post (nI r)) : wpX_isOrder post (S0, S1, S2, A1, A2, A3, A4, A5, A6, A7, A8, A9, A10, A11, A12, A13, A14, A15, A16, A17) e_p0 := by
  subst q_p0; have h : (zq_if (zq_lt p0 (nat_lit 0))
        (kp (nat_lit 0))
        (zq_if (zq_le p0 (nat_lit 3124))
        (zb_X_isOrder_20 kp 40 (nat_lit 0) p0 (nat_lit 0))
        (kp (nat_lit 0)))) = true := h
  exact zq_br h (zq_clt rfl rfl)
        (fun h => hp _ h)
        (fun h => zq_br h (zq_cle rfl rfl)
        (fun h => Exists.intro 40 (zs_X_isOrder_20 h rfl rfl rfl hp))
        (fun h => hp _ h))
noncomputable def zb_X_put_13 (kp : Nat → Nat → Nat → Bool) (x1 : Nat) (S1 : Nat) : Nat → Nat → Nat → Nat → Nat → Bool := fun fu => @Nat.rec (fun _ => Nat → Nat → Nat → Nat → Bool) (fun _ _ _ _ => false) (fun _ ih => fun x3 x4 A1 A2 =>
        zq_if (zq_lt x4 (nat_lit 0))
        (kp (nat_lit 0) A1 A2)
        (zq_if (zq_in (zq_add (zq_mul (nat_lit 5) x1) x4) (nat_lit 45))
        (zq_fc (zq_set A2 (zq_cl (zq_add (zq_mul (nat_lit 5) x1) x4)) (zq_i8 (zq_sub x3 (zq_mul (zq_div x3 (nat_lit 5)) (nat_lit 5))))) (fun a2_6 => zq_fc (zq_div x3 (nat_lit 5)) (fun x3_8 => zq_fc (zq_add x4 (nat_lit 4294967295)) (fun x4_9 => ih x3_8 x4_9 A1 a2_6)))) false)) fu
theorem zr_X_put_13 {post : St2 → Prop} {kp : Nat → Nat → Nat → Bool} {x1 : Nat} {S1 : Nat} {S0 : Int32} {S2 : Int32} {A3 : Nat → Int32} {A4 : Nat → Int32} {A5 : Nat → Int32} {A6 : Nat → Int32} {A7 : Nat → Int32} {A8 : Nat → Int32} {A9 : Nat → Int32} {A10 : Nat → Int32} {A11 : Nat → Int32} {A12 : Nat → Int32} {A13 : Nat → Int32} {A14 : Nat → Int32} {A15 : Nat → Int32} {A16 : Nat → Int32} {A17 : Nat → Int32} (hp : ∀ w1 w3 w4 : Nat, kp w1 w3 w4 = true → post (S0, (nI w1), S2, (zq_g w3), (zq_g w4), A3, A4, A5, A6, A7, A8, A9, A10, A11, A12, A13, A14, A15, A16, A17)) (fu : Nat) : ∀ (x3 : Nat) (x4 : Nat) (A1 : Nat) (A2 : Nat) (e_x3 : Int32) (e_x4 : Int32), zb_X_put_13 kp x1 S1 fu x3 x4 A1 A2 = true → e_x3 = nI x3 → e_x4 = nI x4 → wX_put_13 post (nI x1) S0 (nI S1) S2 fu e_x3 e_x4 (zq_g A1) (zq_g A2) A3 A4 A5 A6 A7 A8 A9 A10 A11 A12 A13 A14 A15 A16 A17 := by
  induction fu with
  | zero => intro x3 x4 A1 A2 e_x3 e_x4 h q_x3 q_x4; exact absurd h Bool.false_ne_true
  | succ n ih =>
    intro x3 x4 A1 A2 e_x3 e_x4 h q_x3 q_x4
    subst q_x3; subst q_x4; have h : (zq_if (zq_lt x4 (nat_lit 0))
        (kp (nat_lit 0) A1 A2)
        (zq_if (zq_in (zq_add (zq_mul (nat_lit 5) x1) x4) (nat_lit 45))
        (zq_fc (zq_set A2 (zq_cl (zq_add (zq_mul (nat_lit 5) x1) x4)) (zq_i8 (zq_sub x3 (zq_mul (zq_div x3 (nat_lit 5)) (nat_lit 5))))) (fun a2_6 => zq_fc (zq_div x3 (nat_lit 5)) (fun x3_8 => zq_fc (zq_add x4 (nat_lit 4294967295)) (fun x4_9 => (zb_X_put_13 kp x1 S1 n) x3_8 x4_9 A1 a2_6)))) false)) = true := h
    exact zq_br h (zq_clt rfl rfl)
        (fun h => hp _ _ _ h)
        (fun h => And.intro (by decide) (zq_vi h (zq_hadd (zq_hmul rfl rfl) rfl) (by decide) (fun h => zq_up h (zq_hadd (zq_hmul rfl rfl) rfl) (zq_hi8 (zq_hsub rfl (zq_hmul (zq_hdiv rfl rfl) rfl))) (fun a2_6 h => And.intro (by decide) (zq_ly h (zq_hdiv rfl rfl) (fun x3_8 h => zq_ly h (zq_hadd rfl zq_m1) (fun x4_9 h => ih _ _ _ _ _ _ h rfl rfl)))))))
theorem zs_X_put_13 {post : St2 → Prop} {kp : Nat → Nat → Nat → Bool} {x1 : Nat} {S1 : Nat} {x3 : Nat} {x4 : Nat} {A1 : Nat} {A2 : Nat} {S0 : Int32} {S2 : Int32} {A3 : Nat → Int32} {A4 : Nat → Int32} {A5 : Nat → Int32} {A6 : Nat → Int32} {A7 : Nat → Int32} {A8 : Nat → Int32} {A9 : Nat → Int32} {A10 : Nat → Int32} {A11 : Nat → Int32} {A12 : Nat → Int32} {A13 : Nat → Int32} {A14 : Nat → Int32} {A15 : Nat → Int32} {A16 : Nat → Int32} {A17 : Nat → Int32} {e_x1 : Int32} {e_x3 : Int32} {e_x4 : Int32} {fu : Nat} (h : zb_X_put_13 kp x1 S1 fu x3 x4 A1 A2 = true) (q_x1 : e_x1 = nI x1) (q_x3 : e_x3 = nI x3) (q_x4 : e_x4 = nI x4) (hp : ∀ w1 w3 w4 : Nat, kp w1 w3 w4 = true → post (S0, (nI w1), S2, (zq_g w3), (zq_g w4), A3, A4, A5, A6, A7, A8, A9, A10, A11, A12, A13, A14, A15, A16, A17)) : wX_put_13 post e_x1 S0 (nI S1) S2 fu e_x3 e_x4 (zq_g A1) (zq_g A2) A3 A4 A5 A6 A7 A8 A9 A10 A11 A12 A13 A14 A15 A16 A17 := by
  subst q_x1; exact zr_X_put_13 hp fu _ _ _ _ _ _ h q_x3 q_x4
noncomputable def zb_X_put (kp : Nat → Nat → Nat → Bool) (p0 : Nat) (p1 : Nat) (S1 : Nat) (A1 : Nat) (A2 : Nat) : Bool :=
        zq_if (zq_in p0 (nat_lit 9))
        (zq_fc (zq_set A1 (zq_cl p0) (zq_i16 p1)) (fun a1_2 => zb_X_put_13 kp p0 S1 40 p1 (nat_lit 4) a1_2 A2)) false
theorem zs_X_put {post : St2 → Prop} {kp : Nat → Nat → Nat → Bool} {p0 : Nat} {p1 : Nat} {S1 : Nat} {A1 : Nat} {A2 : Nat} {S0 : Int32} {S2 : Int32} {A3 : Nat → Int32} {A4 : Nat → Int32} {A5 : Nat → Int32} {A6 : Nat → Int32} {A7 : Nat → Int32} {A8 : Nat → Int32} {A9 : Nat → Int32} {A10 : Nat → Int32} {A11 : Nat → Int32} {A12 : Nat → Int32} {A13 : Nat → Int32} {A14 : Nat → Int32} {A15 : Nat → Int32} {A16 : Nat → Int32} {A17 : Nat → Int32} {e_p0 : Int32} {e_p1 : Int32} (h : zb_X_put kp p0 p1 S1 A1 A2 = true) (q_p0 : e_p0 = nI p0) (q_p1 : e_p1 = nI p1) (hp : ∀ w1 w3 w4 : Nat, kp w1 w3 w4 = true → post (S0, (nI w1), S2, (zq_g w3), (zq_g w4), A3, A4, A5, A6, A7, A8, A9, A10, A11, A12, A13, A14, A15, A16, A17)) : wpX_put post (S0, (nI S1), S2, (zq_g A1), (zq_g A2), A3, A4, A5, A6, A7, A8, A9, A10, A11, A12, A13, A14, A15, A16, A17) e_p0 e_p1 := by
  subst q_p0; subst q_p1; have h : (zq_if (zq_in p0 (nat_lit 9))
        (zq_fc (zq_set A1 (zq_cl p0) (zq_i16 p1)) (fun a1_2 => zb_X_put_13 kp p0 S1 40 p1 (nat_lit 4) a1_2 A2)) false) = true := h
  exact zq_vi h rfl (by decide) (fun h => zq_up h rfl (zq_hi16 rfl) (fun a1_2 h => Exists.intro 40 (zs_X_put_13 h rfl rfl rfl hp)))
noncomputable def zb_X_ballot (kp : Nat → Nat → Nat → Nat → Nat → Bool) (p0 : Nat) (S0 : Nat) (S1 : Nat) (A1 : Nat) (A2 : Nat) : Bool :=
        zq_if (zq_lt S0 (nat_lit 9))
        (zb_X_isOrder (fun r_2 => zq_if (zq_eq r_2 (nat_lit 0))
        (kp (nat_lit 4294966296) S0 S1 A1 A2)
        (zb_X_put (fun f0_counted_6 am311_10 am312_13 => zq_fc (zq_add S0 (nat_lit 1)) (fun f_59 => kp f_59 f_59 f0_counted_6 am311_10 am312_13)) S0 p0 S1 A1 A2)) p0)
        (kp (nat_lit 4294966295) S0 S1 A1 A2)
theorem zs_X_ballot {post : Int32 → St2 → Prop} {kp : Nat → Nat → Nat → Nat → Nat → Bool} {p0 : Nat} {S0 : Nat} {S1 : Nat} {A1 : Nat} {A2 : Nat} {S2 : Int32} {A3 : Nat → Int32} {A4 : Nat → Int32} {A5 : Nat → Int32} {A6 : Nat → Int32} {A7 : Nat → Int32} {A8 : Nat → Int32} {A9 : Nat → Int32} {A10 : Nat → Int32} {A11 : Nat → Int32} {A12 : Nat → Int32} {A13 : Nat → Int32} {A14 : Nat → Int32} {A15 : Nat → Int32} {A16 : Nat → Int32} {A17 : Nat → Int32} {e_p0 : Int32} (h : zb_X_ballot kp p0 S0 S1 A1 A2 = true) (q_p0 : e_p0 = nI p0) (hp : ∀ r w0 w1 w3 w4 : Nat, kp r w0 w1 w3 w4 = true → post (nI r) ((nI w0), (nI w1), S2, (zq_g w3), (zq_g w4), A3, A4, A5, A6, A7, A8, A9, A10, A11, A12, A13, A14, A15, A16, A17)) : wpX_ballot post ((nI S0), (nI S1), S2, (zq_g A1), (zq_g A2), A3, A4, A5, A6, A7, A8, A9, A10, A11, A12, A13, A14, A15, A16, A17) e_p0 := by
  subst q_p0; have h : (zq_if (zq_lt S0 (nat_lit 9))
        (zb_X_isOrder (fun r_2 => zq_if (zq_eq r_2 (nat_lit 0))
        (kp (nat_lit 4294966296) S0 S1 A1 A2)
        (zb_X_put (fun f0_counted_6 am311_10 am312_13 => zq_fc (zq_add S0 (nat_lit 1)) (fun f_59 => kp f_59 f_59 f0_counted_6 am311_10 am312_13)) S0 p0 S1 A1 A2)) p0)
        (kp (nat_lit 4294966295) S0 S1 A1 A2)) = true := h
  exact zq_br h (zq_clt rfl rfl)
        (fun h => zs_X_isOrder h rfl (fun r_2 h => zq_br h (zq_ceq rfl rfl)
        (fun h => Eq.mpr (congrFun (congrArg post zq_m1000) _) (hp _ _ _ _ _ h))
        (fun h => zs_X_put h rfl rfl (fun f0_counted_6 am311_10 am312_13 h => zq_ly h (zq_hadd rfl rfl) (fun f_59 h => hp _ _ _ _ _ h)))))
        (fun h => Eq.mpr (congrFun (congrArg post zq_m1001) _) (hp _ _ _ _ _ h))
noncomputable def zb_X_onesIn_4 (kp : Nat → Bool) : Nat → Nat → Nat → Bool := fun fu => @Nat.rec (fun _ => Nat → Nat → Bool) (fun _ _ => false) (fun _ ih => fun x2 x3 =>
        zq_if (zq_eq x3 (nat_lit 0))
        (kp x2)
        (zq_fc (zq_and x3 (zq_sub x3 (nat_lit 1))) (fun x3_2 => zq_fc (zq_add x2 (nat_lit 1)) (fun x2_3 => ih x2_3 x3_2)))) fu
theorem zr_X_onesIn_4 {post : Int32 → Prop} {kp : Nat → Bool} {S0 : Int32} {S1 : Int32} {S2 : Int32} {A1 : Nat → Int32} {A2 : Nat → Int32} {A3 : Nat → Int32} {A4 : Nat → Int32} {A5 : Nat → Int32} {A6 : Nat → Int32} {A7 : Nat → Int32} {A8 : Nat → Int32} {A9 : Nat → Int32} {A10 : Nat → Int32} {A11 : Nat → Int32} {A12 : Nat → Int32} {A13 : Nat → Int32} {A14 : Nat → Int32} {A15 : Nat → Int32} {A16 : Nat → Int32} {A17 : Nat → Int32} (hp : ∀ r : Nat, kp r = true → post (nI r)) (fu : Nat) : ∀ (x2 : Nat) (x3 : Nat) (e_x2 : Int32) (e_x3 : Int32), zb_X_onesIn_4 kp fu x2 x3 = true → e_x2 = nI x2 → e_x3 = nI x3 → wX_onesIn_4 post S0 S1 S2 A1 A2 A3 A4 A5 A6 A7 A8 A9 A10 A11 A12 A13 A14 A15 A16 A17 fu e_x2 e_x3 := by
  induction fu with
  | zero => intro x2 x3 e_x2 e_x3 h q_x2 q_x3; exact absurd h Bool.false_ne_true
  | succ n ih =>
    intro x2 x3 e_x2 e_x3 h q_x2 q_x3
    subst q_x2; subst q_x3; have h : (zq_if (zq_eq x3 (nat_lit 0))
        (kp x2)
        (zq_fc (zq_and x3 (zq_sub x3 (nat_lit 1))) (fun x3_2 => zq_fc (zq_add x2 (nat_lit 1)) (fun x2_3 => (zb_X_onesIn_4 kp n) x2_3 x3_2)))) = true := h
    exact zq_br h (zq_ceq rfl rfl)
        (fun h => hp _ h)
        (fun h => zq_ly h (zq_hand rfl (zq_hsub rfl rfl)) (fun x3_2 h => zq_ly h (zq_hadd rfl rfl) (fun x2_3 h => ih _ _ _ _ h rfl rfl)))
theorem zs_X_onesIn_4 {post : Int32 → Prop} {kp : Nat → Bool} {x2 : Nat} {x3 : Nat} {S0 : Int32} {S1 : Int32} {S2 : Int32} {A1 : Nat → Int32} {A2 : Nat → Int32} {A3 : Nat → Int32} {A4 : Nat → Int32} {A5 : Nat → Int32} {A6 : Nat → Int32} {A7 : Nat → Int32} {A8 : Nat → Int32} {A9 : Nat → Int32} {A10 : Nat → Int32} {A11 : Nat → Int32} {A12 : Nat → Int32} {A13 : Nat → Int32} {A14 : Nat → Int32} {A15 : Nat → Int32} {A16 : Nat → Int32} {A17 : Nat → Int32} {e_x2 : Int32} {e_x3 : Int32} {fu : Nat} (h : zb_X_onesIn_4 kp fu x2 x3 = true) (q_x2 : e_x2 = nI x2) (q_x3 : e_x3 = nI x3) (hp : ∀ r : Nat, kp r = true → post (nI r)) : wX_onesIn_4 post S0 S1 S2 A1 A2 A3 A4 A5 A6 A7 A8 A9 A10 A11 A12 A13 A14 A15 A16 A17 fu e_x2 e_x3 := by
  exact zr_X_onesIn_4 hp fu _ _ _ _ h q_x2 q_x3
noncomputable def zb_X_onesIn (kp : Nat → Bool) (p0 : Nat) : Bool :=
        zb_X_onesIn_4 kp 40 (nat_lit 0) p0
theorem zs_X_onesIn {post : Int32 → Prop} {kp : Nat → Bool} {p0 : Nat} {S0 : Int32} {S1 : Int32} {S2 : Int32} {A1 : Nat → Int32} {A2 : Nat → Int32} {A3 : Nat → Int32} {A4 : Nat → Int32} {A5 : Nat → Int32} {A6 : Nat → Int32} {A7 : Nat → Int32} {A8 : Nat → Int32} {A9 : Nat → Int32} {A10 : Nat → Int32} {A11 : Nat → Int32} {A12 : Nat → Int32} {A13 : Nat → Int32} {A14 : Nat → Int32} {A15 : Nat → Int32} {A16 : Nat → Int32} {A17 : Nat → Int32} {e_p0 : Int32} (h : zb_X_onesIn kp p0 = true) (q_p0 : e_p0 = nI p0) (hp : ∀ r : Nat, kp r = true → post (nI r)) : wpX_onesIn post (S0, S1, S2, A1, A2, A3, A4, A5, A6, A7, A8, A9, A10, A11, A12, A13, A14, A15, A16, A17) e_p0 := by
  subst q_p0; have h : (zb_X_onesIn_4 kp 40 (nat_lit 0) p0) = true := h
  exact Exists.intro 40 (zs_X_onesIn_4 h rfl rfl hp)
noncomputable def zb_X_countBallot_11 (kp : Nat → Bool) (kJ2 : Nat → Nat → Bool) (x1 : Nat) (x2 : Nat) (A2 : Nat) : Nat → Nat → Nat → Bool := fun fu => @Nat.rec (fun _ => Nat → Nat → Bool) (fun _ _ => false) (fun _ ih => fun x3 A3 =>
        zq_if (zq_le (nat_lit 5) x3)
        (zq_fc (zq_add x2 (nat_lit 1)) (fun x2_4 => kJ2 x2_4 A3))
        (zq_if (zq_in (zq_add (zq_mul (nat_lit 5) x1) x2) (nat_lit 45))
        (zq_if (zq_in (zq_add (zq_mul (nat_lit 5) x1) x3) (nat_lit 45))
        (zq_if (zq_in (zq_add (zq_mul (nat_lit 5) (zq_get A2 (zq_cl (zq_add (zq_mul (nat_lit 5) x1) x2)))) (zq_get A2 (zq_cl (zq_add (zq_mul (nat_lit 5) x1) x3)))) (nat_lit 25))
        (zq_if (zq_in (zq_add (zq_mul (nat_lit 5) (zq_get A2 (zq_cl (zq_add (zq_mul (nat_lit 5) x1) x2)))) (zq_get A2 (zq_cl (zq_add (zq_mul (nat_lit 5) x1) x3)))) (nat_lit 25))
        (zq_fc (zq_set A3 (zq_cl (zq_add (zq_mul (nat_lit 5) (zq_get A2 (zq_cl (zq_add (zq_mul (nat_lit 5) x1) x2)))) (zq_get A2 (zq_cl (zq_add (zq_mul (nat_lit 5) x1) x3))))) (zq_i16 (zq_or (zq_get A3 (zq_cl (zq_add (zq_mul (nat_lit 5) (zq_get A2 (zq_cl (zq_add (zq_mul (nat_lit 5) x1) x2)))) (zq_get A2 (zq_cl (zq_add (zq_mul (nat_lit 5) x1) x3)))))) (zq_shl (nat_lit 1) x1)))) (fun a3_9 => zq_fc (zq_add x3 (nat_lit 1)) (fun x3_10 => ih x3_10 a3_9))) false) false) false) false)) fu
theorem zr_X_countBallot_11 {post : St2 → Prop} {J2 : Int32 → (Nat → Int32) → (Nat → Int32) → (Nat → Int32) → (Nat → Int32) → (Nat → Int32) → (Nat → Int32) → (Nat → Int32) → (Nat → Int32) → (Nat → Int32) → (Nat → Int32) → (Nat → Int32) → (Nat → Int32) → (Nat → Int32) → (Nat → Int32) → (Nat → Int32) → (Nat → Int32) → (Nat → Int32) → Prop} {kp : Nat → Bool} {kJ2 : Nat → Nat → Bool} {x1 : Nat} {x2 : Nat} {A2 : Nat} {S0 : Int32} {S1 : Int32} {S2 : Int32} {A1 : Nat → Int32} {A4 : Nat → Int32} {A5 : Nat → Int32} {A6 : Nat → Int32} {A7 : Nat → Int32} {A8 : Nat → Int32} {A9 : Nat → Int32} {A10 : Nat → Int32} {A11 : Nat → Int32} {A12 : Nat → Int32} {A13 : Nat → Int32} {A14 : Nat → Int32} {A15 : Nat → Int32} {A16 : Nat → Int32} {A17 : Nat → Int32} (hp : ∀ w5 : Nat, kp w5 = true → post (S0, S1, S2, A1, (zq_g A2), (zq_g w5), A4, A5, A6, A7, A8, A9, A10, A11, A12, A13, A14, A15, A16, A17)) (hJ2 : ∀ y_x2 v5 : Nat, kJ2 y_x2 v5 = true → J2 (nI y_x2) A1 (zq_g A2) (zq_g v5) A4 A5 A6 A7 A8 A9 A10 A11 A12 A13 A14 A15 A16 A17) (fu : Nat) : ∀ (x3 : Nat) (A3 : Nat) (e_x3 : Int32), zb_X_countBallot_11 kp kJ2 x1 x2 A2 fu x3 A3 = true → e_x3 = nI x3 → wX_countBallot_11 post J2 (nI x1) (nI x2) S0 S1 S2 fu e_x3 A1 (zq_g A2) (zq_g A3) A4 A5 A6 A7 A8 A9 A10 A11 A12 A13 A14 A15 A16 A17 := by
  induction fu with
  | zero => intro x3 A3 e_x3 h q_x3; exact absurd h Bool.false_ne_true
  | succ n ih =>
    intro x3 A3 e_x3 h q_x3
    subst q_x3; have h : (zq_if (zq_le (nat_lit 5) x3)
        (zq_fc (zq_add x2 (nat_lit 1)) (fun x2_4 => kJ2 x2_4 A3))
        (zq_if (zq_in (zq_add (zq_mul (nat_lit 5) x1) x2) (nat_lit 45))
        (zq_if (zq_in (zq_add (zq_mul (nat_lit 5) x1) x3) (nat_lit 45))
        (zq_if (zq_in (zq_add (zq_mul (nat_lit 5) (zq_get A2 (zq_cl (zq_add (zq_mul (nat_lit 5) x1) x2)))) (zq_get A2 (zq_cl (zq_add (zq_mul (nat_lit 5) x1) x3)))) (nat_lit 25))
        (zq_if (zq_in (zq_add (zq_mul (nat_lit 5) (zq_get A2 (zq_cl (zq_add (zq_mul (nat_lit 5) x1) x2)))) (zq_get A2 (zq_cl (zq_add (zq_mul (nat_lit 5) x1) x3)))) (nat_lit 25))
        (zq_fc (zq_set A3 (zq_cl (zq_add (zq_mul (nat_lit 5) (zq_get A2 (zq_cl (zq_add (zq_mul (nat_lit 5) x1) x2)))) (zq_get A2 (zq_cl (zq_add (zq_mul (nat_lit 5) x1) x3))))) (zq_i16 (zq_or (zq_get A3 (zq_cl (zq_add (zq_mul (nat_lit 5) (zq_get A2 (zq_cl (zq_add (zq_mul (nat_lit 5) x1) x2)))) (zq_get A2 (zq_cl (zq_add (zq_mul (nat_lit 5) x1) x3)))))) (zq_shl (nat_lit 1) x1)))) (fun a3_9 => zq_fc (zq_add x3 (nat_lit 1)) (fun x3_10 => (zb_X_countBallot_11 kp kJ2 x1 x2 A2 n) x3_10 a3_9))) false) false) false) false)) = true := h
    exact zq_br h (zq_cle rfl rfl)
        (fun h => zq_ly h (zq_hadd rfl rfl) (fun x2_4 h => hJ2 _ _ h))
        (fun h => zq_vi h (zq_hadd (zq_hmul rfl rfl) rfl) (by decide) (fun h => zq_vi h (zq_hadd (zq_hmul rfl rfl) rfl) (by decide) (fun h => zq_vi h (zq_hadd (zq_hmul rfl (zq_rd (zq_hadd (zq_hmul rfl rfl) rfl))) (zq_rd (zq_hadd (zq_hmul rfl rfl) rfl))) (by decide) (fun h => zq_vi h (zq_hadd (zq_hmul rfl (zq_rd (zq_hadd (zq_hmul rfl rfl) rfl))) (zq_rd (zq_hadd (zq_hmul rfl rfl) rfl))) (by decide) (fun h => zq_up h (zq_hadd (zq_hmul rfl (zq_rd (zq_hadd (zq_hmul rfl rfl) rfl))) (zq_rd (zq_hadd (zq_hmul rfl rfl) rfl))) (zq_hi16 (zq_hor (zq_rd (zq_hadd (zq_hmul rfl (zq_rd (zq_hadd (zq_hmul rfl rfl) rfl))) (zq_rd (zq_hadd (zq_hmul rfl rfl) rfl)))) (zq_hshl rfl rfl))) (fun a3_9 h => zq_ly h (zq_hadd rfl rfl) (fun x3_10 h => ih _ _ _ h rfl)))))))
theorem zs_X_countBallot_11 {post : St2 → Prop} {J2 : Int32 → (Nat → Int32) → (Nat → Int32) → (Nat → Int32) → (Nat → Int32) → (Nat → Int32) → (Nat → Int32) → (Nat → Int32) → (Nat → Int32) → (Nat → Int32) → (Nat → Int32) → (Nat → Int32) → (Nat → Int32) → (Nat → Int32) → (Nat → Int32) → (Nat → Int32) → (Nat → Int32) → (Nat → Int32) → Prop} {kp : Nat → Bool} {kJ2 : Nat → Nat → Bool} {x1 : Nat} {x2 : Nat} {A2 : Nat} {x3 : Nat} {A3 : Nat} {S0 : Int32} {S1 : Int32} {S2 : Int32} {A1 : Nat → Int32} {A4 : Nat → Int32} {A5 : Nat → Int32} {A6 : Nat → Int32} {A7 : Nat → Int32} {A8 : Nat → Int32} {A9 : Nat → Int32} {A10 : Nat → Int32} {A11 : Nat → Int32} {A12 : Nat → Int32} {A13 : Nat → Int32} {A14 : Nat → Int32} {A15 : Nat → Int32} {A16 : Nat → Int32} {A17 : Nat → Int32} {e_x1 : Int32} {e_x2 : Int32} {e_x3 : Int32} {fu : Nat} (h : zb_X_countBallot_11 kp kJ2 x1 x2 A2 fu x3 A3 = true) (q_x1 : e_x1 = nI x1) (q_x2 : e_x2 = nI x2) (q_x3 : e_x3 = nI x3) (hp : ∀ w5 : Nat, kp w5 = true → post (S0, S1, S2, A1, (zq_g A2), (zq_g w5), A4, A5, A6, A7, A8, A9, A10, A11, A12, A13, A14, A15, A16, A17)) (hJ2 : ∀ y_x2 v5 : Nat, kJ2 y_x2 v5 = true → J2 (nI y_x2) A1 (zq_g A2) (zq_g v5) A4 A5 A6 A7 A8 A9 A10 A11 A12 A13 A14 A15 A16 A17) : wX_countBallot_11 post J2 e_x1 e_x2 S0 S1 S2 fu e_x3 A1 (zq_g A2) (zq_g A3) A4 A5 A6 A7 A8 A9 A10 A11 A12 A13 A14 A15 A16 A17 := by
  subst q_x1; subst q_x2; exact zr_X_countBallot_11 hp hJ2 fu _ _ _ h q_x3
noncomputable def zb_X_countBallot_2 (kp : Nat → Bool) (x1 : Nat) (A2 : Nat) : Nat → Nat → Nat → Bool := fun fu => @Nat.rec (fun _ => Nat → Nat → Bool) (fun _ _ => false) (fun _ ih => fun x2 A3 =>
        zq_if (zq_le (nat_lit 5) x2)
        (kp A3)
        (zq_fc (zq_add x2 (nat_lit 1)) (fun x3_2 => zb_X_countBallot_11 kp ih x1 x2 A2 40 x3_2 A3))) fu
theorem zr_X_countBallot_2 {post : St2 → Prop} {kp : Nat → Bool} {x1 : Nat} {A2 : Nat} {S0 : Int32} {S1 : Int32} {S2 : Int32} {A1 : Nat → Int32} {A4 : Nat → Int32} {A5 : Nat → Int32} {A6 : Nat → Int32} {A7 : Nat → Int32} {A8 : Nat → Int32} {A9 : Nat → Int32} {A10 : Nat → Int32} {A11 : Nat → Int32} {A12 : Nat → Int32} {A13 : Nat → Int32} {A14 : Nat → Int32} {A15 : Nat → Int32} {A16 : Nat → Int32} {A17 : Nat → Int32} (hp : ∀ w5 : Nat, kp w5 = true → post (S0, S1, S2, A1, (zq_g A2), (zq_g w5), A4, A5, A6, A7, A8, A9, A10, A11, A12, A13, A14, A15, A16, A17)) (fu : Nat) : ∀ (x2 : Nat) (A3 : Nat) (e_x2 : Int32), zb_X_countBallot_2 kp x1 A2 fu x2 A3 = true → e_x2 = nI x2 → wX_countBallot_2 post (nI x1) S0 S1 S2 fu e_x2 A1 (zq_g A2) (zq_g A3) A4 A5 A6 A7 A8 A9 A10 A11 A12 A13 A14 A15 A16 A17 := by
  induction fu with
  | zero => intro x2 A3 e_x2 h q_x2; exact absurd h Bool.false_ne_true
  | succ n ih =>
    intro x2 A3 e_x2 h q_x2
    subst q_x2; have h : (zq_if (zq_le (nat_lit 5) x2)
        (kp A3)
        (zq_fc (zq_add x2 (nat_lit 1)) (fun x3_2 => zb_X_countBallot_11 kp (zb_X_countBallot_2 kp x1 A2 n) x1 x2 A2 40 x3_2 A3))) = true := h
    exact zq_br h (zq_cle rfl rfl)
        (fun h => hp _ h)
        (fun h => zq_ly h (zq_hadd rfl rfl) (fun x3_2 h => Exists.intro 40 (zs_X_countBallot_11 h rfl rfl rfl hp (fun y0 y1 h => ih y0 y1 _ h rfl))))
theorem zs_X_countBallot_2 {post : St2 → Prop} {kp : Nat → Bool} {x1 : Nat} {A2 : Nat} {x2 : Nat} {A3 : Nat} {S0 : Int32} {S1 : Int32} {S2 : Int32} {A1 : Nat → Int32} {A4 : Nat → Int32} {A5 : Nat → Int32} {A6 : Nat → Int32} {A7 : Nat → Int32} {A8 : Nat → Int32} {A9 : Nat → Int32} {A10 : Nat → Int32} {A11 : Nat → Int32} {A12 : Nat → Int32} {A13 : Nat → Int32} {A14 : Nat → Int32} {A15 : Nat → Int32} {A16 : Nat → Int32} {A17 : Nat → Int32} {e_x1 : Int32} {e_x2 : Int32} {fu : Nat} (h : zb_X_countBallot_2 kp x1 A2 fu x2 A3 = true) (q_x1 : e_x1 = nI x1) (q_x2 : e_x2 = nI x2) (hp : ∀ w5 : Nat, kp w5 = true → post (S0, S1, S2, A1, (zq_g A2), (zq_g w5), A4, A5, A6, A7, A8, A9, A10, A11, A12, A13, A14, A15, A16, A17)) : wX_countBallot_2 post e_x1 S0 S1 S2 fu e_x2 A1 (zq_g A2) (zq_g A3) A4 A5 A6 A7 A8 A9 A10 A11 A12 A13 A14 A15 A16 A17 := by
  subst q_x1; exact zr_X_countBallot_2 hp fu _ _ _ h q_x2
noncomputable def zb_X_countBallot (kp : Nat → Bool) (p0 : Nat) (A2 : Nat) (A3 : Nat) : Bool :=
        zb_X_countBallot_2 kp p0 A2 40 (nat_lit 0) A3
theorem zs_X_countBallot {post : St2 → Prop} {kp : Nat → Bool} {p0 : Nat} {A2 : Nat} {A3 : Nat} {S0 : Int32} {S1 : Int32} {S2 : Int32} {A1 : Nat → Int32} {A4 : Nat → Int32} {A5 : Nat → Int32} {A6 : Nat → Int32} {A7 : Nat → Int32} {A8 : Nat → Int32} {A9 : Nat → Int32} {A10 : Nat → Int32} {A11 : Nat → Int32} {A12 : Nat → Int32} {A13 : Nat → Int32} {A14 : Nat → Int32} {A15 : Nat → Int32} {A16 : Nat → Int32} {A17 : Nat → Int32} {e_p0 : Int32} (h : zb_X_countBallot kp p0 A2 A3 = true) (q_p0 : e_p0 = nI p0) (hp : ∀ w5 : Nat, kp w5 = true → post (S0, S1, S2, A1, (zq_g A2), (zq_g w5), A4, A5, A6, A7, A8, A9, A10, A11, A12, A13, A14, A15, A16, A17)) : wpX_countBallot post (S0, S1, S2, A1, (zq_g A2), (zq_g A3), A4, A5, A6, A7, A8, A9, A10, A11, A12, A13, A14, A15, A16, A17) e_p0 := by
  subst q_p0; have h : (zb_X_countBallot_2 kp p0 A2 40 (nat_lit 0) A3) = true := h
  exact Exists.intro 40 (zs_X_countBallot_2 h rfl rfl hp)
noncomputable def zb_X_countAll_71 (kp : Nat → Nat → Nat → Nat → Bool) (kJ57 : Nat → Nat → Nat → Nat → Bool) (x1 : Nat) (S0 : Nat) (S1 : Nat) (A2 : Nat) : Nat → Nat → Nat → Nat → Nat → Bool := fun fu => @Nat.rec (fun _ => Nat → Nat → Nat → Nat → Bool) (fun _ _ _ _ => false) (fun _ ih => fun x2 A3 A4 A5 =>
        zq_if (zq_le (nat_lit 5) x2)
        (zq_fc (zq_add x1 (nat_lit 1)) (fun x1_8 => kJ57 x1_8 A3 A4 A5))
        (zq_if (zq_in (zq_add (zq_mul (nat_lit 5) x1) x2) (nat_lit 25))
        (zq_fc (zq_get A3 (zq_cl (zq_add (zq_mul (nat_lit 5) x1) x2))) (fun y2 => zb_X_onesIn (fun r_10 => zq_if (zq_in (zq_add (zq_mul (nat_lit 5) x2) x1) (nat_lit 25))
        (zq_fc (zq_get A3 (zq_cl (zq_add (zq_mul (nat_lit 5) x2) x1))) (fun y1 => zb_X_onesIn (fun r_12 => zq_fc (zq_sub r_10 r_12) (fun x3_13 => zq_if (zq_in (zq_add (zq_mul (nat_lit 5) x1) x2) (nat_lit 25))
        (zq_fc (zq_set A4 (zq_cl (zq_add (zq_mul (nat_lit 5) x1) x2)) (zq_i8 x3_13)) (fun a4_15 => zq_if (zq_le x3_13 (nat_lit 0))
        (zq_fc (zq_add x2 (nat_lit 1)) (fun x2_17 => ih x2_17 A3 a4_15 A5))
        (zq_if (zq_in x1 (nat_lit 5))
        (zq_if (zq_in x1 (nat_lit 5))
        (zq_fc (zq_set A5 (zq_cl x1) (zq_i8 (zq_or (zq_get A5 (zq_cl x1)) (zq_shl (nat_lit 1) x2)))) (fun a5_20 => zq_fc (zq_add x2 (nat_lit 1)) (fun x2_21 => ih x2_21 A3 a4_15 a5_20))) false) false))) false)) y1)) false) y2)) false)) fu
theorem zr_X_countAll_71 {post : St2 → Prop} {J57 : Int32 → (Nat → Int32) → (Nat → Int32) → (Nat → Int32) → (Nat → Int32) → (Nat → Int32) → (Nat → Int32) → (Nat → Int32) → (Nat → Int32) → (Nat → Int32) → (Nat → Int32) → (Nat → Int32) → (Nat → Int32) → (Nat → Int32) → (Nat → Int32) → (Nat → Int32) → (Nat → Int32) → (Nat → Int32) → Prop} {kp : Nat → Nat → Nat → Nat → Bool} {kJ57 : Nat → Nat → Nat → Nat → Bool} {x1 : Nat} {S0 : Nat} {S1 : Nat} {A2 : Nat} {S2 : Int32} {A1 : Nat → Int32} {A6 : Nat → Int32} {A7 : Nat → Int32} {A8 : Nat → Int32} {A9 : Nat → Int32} {A10 : Nat → Int32} {A11 : Nat → Int32} {A12 : Nat → Int32} {A13 : Nat → Int32} {A14 : Nat → Int32} {A15 : Nat → Int32} {A16 : Nat → Int32} {A17 : Nat → Int32} (hp : ∀ w1 w5 w6 w7 : Nat, kp w1 w5 w6 w7 = true → post ((nI S0), (nI w1), S2, A1, (zq_g A2), (zq_g w5), (zq_g w6), (zq_g w7), A6, A7, A8, A9, A10, A11, A12, A13, A14, A15, A16, A17)) (hJ57 : ∀ y_x1 v5 v6 v7 : Nat, kJ57 y_x1 v5 v6 v7 = true → J57 (nI y_x1) A1 (zq_g A2) (zq_g v5) (zq_g v6) (zq_g v7) A6 A7 A8 A9 A10 A11 A12 A13 A14 A15 A16 A17) (fu : Nat) : ∀ (x2 : Nat) (A3 : Nat) (A4 : Nat) (A5 : Nat) (e_x2 : Int32), zb_X_countAll_71 kp kJ57 x1 S0 S1 A2 fu x2 A3 A4 A5 = true → e_x2 = nI x2 → wX_countAll_71 post J57 (nI x1) (nI S0) (nI S1) S2 fu e_x2 A1 (zq_g A2) (zq_g A3) (zq_g A4) (zq_g A5) A6 A7 A8 A9 A10 A11 A12 A13 A14 A15 A16 A17 := by
  induction fu with
  | zero => intro x2 A3 A4 A5 e_x2 h q_x2; exact absurd h Bool.false_ne_true
  | succ n ih =>
    intro x2 A3 A4 A5 e_x2 h q_x2
    subst q_x2; have h : (zq_if (zq_le (nat_lit 5) x2)
        (zq_fc (zq_add x1 (nat_lit 1)) (fun x1_8 => kJ57 x1_8 A3 A4 A5))
        (zq_if (zq_in (zq_add (zq_mul (nat_lit 5) x1) x2) (nat_lit 25))
        (zq_fc (zq_get A3 (zq_cl (zq_add (zq_mul (nat_lit 5) x1) x2))) (fun y2 => zb_X_onesIn (fun r_10 => zq_if (zq_in (zq_add (zq_mul (nat_lit 5) x2) x1) (nat_lit 25))
        (zq_fc (zq_get A3 (zq_cl (zq_add (zq_mul (nat_lit 5) x2) x1))) (fun y1 => zb_X_onesIn (fun r_12 => zq_fc (zq_sub r_10 r_12) (fun x3_13 => zq_if (zq_in (zq_add (zq_mul (nat_lit 5) x1) x2) (nat_lit 25))
        (zq_fc (zq_set A4 (zq_cl (zq_add (zq_mul (nat_lit 5) x1) x2)) (zq_i8 x3_13)) (fun a4_15 => zq_if (zq_le x3_13 (nat_lit 0))
        (zq_fc (zq_add x2 (nat_lit 1)) (fun x2_17 => (zb_X_countAll_71 kp kJ57 x1 S0 S1 A2 n) x2_17 A3 a4_15 A5))
        (zq_if (zq_in x1 (nat_lit 5))
        (zq_if (zq_in x1 (nat_lit 5))
        (zq_fc (zq_set A5 (zq_cl x1) (zq_i8 (zq_or (zq_get A5 (zq_cl x1)) (zq_shl (nat_lit 1) x2)))) (fun a5_20 => zq_fc (zq_add x2 (nat_lit 1)) (fun x2_21 => (zb_X_countAll_71 kp kJ57 x1 S0 S1 A2 n) x2_21 A3 a4_15 a5_20))) false) false))) false)) y1)) false) y2)) false)) = true := h
    exact zq_br h (zq_cle rfl rfl)
        (fun h => zq_ly h (zq_hadd rfl rfl) (fun x1_8 h => hJ57 _ _ _ _ h))
        (fun h => zq_vi h (zq_hadd (zq_hmul rfl rfl) rfl) (by decide) (fun h => have h := zq_fe h; zs_X_onesIn h (zq_rd (zq_hadd (zq_hmul rfl rfl) rfl)) (fun r_10 h => zq_vi h (zq_hadd (zq_hmul rfl rfl) rfl) (by decide) (fun h => have h := zq_fe h; zs_X_onesIn h (zq_rd (zq_hadd (zq_hmul rfl rfl) rfl)) (fun r_12 h => zq_ly h (zq_hsub rfl rfl) (fun x3_13 h => zq_vi h (zq_hadd (zq_hmul rfl rfl) rfl) (by decide) (fun h => zq_up h (zq_hadd (zq_hmul rfl rfl) rfl) (zq_hi8 rfl) (fun a4_15 h => zq_br h (zq_cle rfl rfl)
        (fun h => zq_ly h (zq_hadd rfl rfl) (fun x2_17 h => ih _ _ _ _ _ h rfl))
        (fun h => zq_vi h rfl (by decide) (fun h => zq_vi h rfl (by decide) (fun h => zq_up h rfl (zq_hi8 (zq_hor (zq_rd rfl) (zq_hshl rfl rfl))) (fun a5_20 h => zq_ly h (zq_hadd rfl rfl) (fun x2_21 h => ih _ _ _ _ _ h rfl)))))))))))))
theorem zs_X_countAll_71 {post : St2 → Prop} {J57 : Int32 → (Nat → Int32) → (Nat → Int32) → (Nat → Int32) → (Nat → Int32) → (Nat → Int32) → (Nat → Int32) → (Nat → Int32) → (Nat → Int32) → (Nat → Int32) → (Nat → Int32) → (Nat → Int32) → (Nat → Int32) → (Nat → Int32) → (Nat → Int32) → (Nat → Int32) → (Nat → Int32) → (Nat → Int32) → Prop} {kp : Nat → Nat → Nat → Nat → Bool} {kJ57 : Nat → Nat → Nat → Nat → Bool} {x1 : Nat} {S0 : Nat} {S1 : Nat} {A2 : Nat} {x2 : Nat} {A3 : Nat} {A4 : Nat} {A5 : Nat} {S2 : Int32} {A1 : Nat → Int32} {A6 : Nat → Int32} {A7 : Nat → Int32} {A8 : Nat → Int32} {A9 : Nat → Int32} {A10 : Nat → Int32} {A11 : Nat → Int32} {A12 : Nat → Int32} {A13 : Nat → Int32} {A14 : Nat → Int32} {A15 : Nat → Int32} {A16 : Nat → Int32} {A17 : Nat → Int32} {e_x1 : Int32} {e_x2 : Int32} {fu : Nat} (h : zb_X_countAll_71 kp kJ57 x1 S0 S1 A2 fu x2 A3 A4 A5 = true) (q_x1 : e_x1 = nI x1) (q_x2 : e_x2 = nI x2) (hp : ∀ w1 w5 w6 w7 : Nat, kp w1 w5 w6 w7 = true → post ((nI S0), (nI w1), S2, A1, (zq_g A2), (zq_g w5), (zq_g w6), (zq_g w7), A6, A7, A8, A9, A10, A11, A12, A13, A14, A15, A16, A17)) (hJ57 : ∀ y_x1 v5 v6 v7 : Nat, kJ57 y_x1 v5 v6 v7 = true → J57 (nI y_x1) A1 (zq_g A2) (zq_g v5) (zq_g v6) (zq_g v7) A6 A7 A8 A9 A10 A11 A12 A13 A14 A15 A16 A17) : wX_countAll_71 post J57 e_x1 (nI S0) (nI S1) S2 fu e_x2 A1 (zq_g A2) (zq_g A3) (zq_g A4) (zq_g A5) A6 A7 A8 A9 A10 A11 A12 A13 A14 A15 A16 A17 := by
  subst q_x1; exact zr_X_countAll_71 hp hJ57 fu _ _ _ _ _ h q_x2
noncomputable def zb_X_countAll_57 (kp : Nat → Nat → Nat → Nat → Bool) (S0 : Nat) (S1 : Nat) (A2 : Nat) : Nat → Nat → Nat → Nat → Nat → Bool := fun fu => @Nat.rec (fun _ => Nat → Nat → Nat → Nat → Bool) (fun _ _ _ _ => false) (fun _ ih => fun x1 A3 A4 A5 =>
        zq_if (zq_le (nat_lit 5) x1)
        (kp S1 A3 A4 A5)
        (zq_if (zq_in x1 (nat_lit 5))
        (zq_fc (zq_set A5 (zq_cl x1) (nat_lit 0)) (fun a5_6 => zb_X_countAll_71 kp ih x1 S0 S1 A2 40 (nat_lit 0) A3 A4 a5_6)) false)) fu
theorem zr_X_countAll_57 {post : St2 → Prop} {kp : Nat → Nat → Nat → Nat → Bool} {S0 : Nat} {S1 : Nat} {A2 : Nat} {S2 : Int32} {A1 : Nat → Int32} {A6 : Nat → Int32} {A7 : Nat → Int32} {A8 : Nat → Int32} {A9 : Nat → Int32} {A10 : Nat → Int32} {A11 : Nat → Int32} {A12 : Nat → Int32} {A13 : Nat → Int32} {A14 : Nat → Int32} {A15 : Nat → Int32} {A16 : Nat → Int32} {A17 : Nat → Int32} (hp : ∀ w1 w5 w6 w7 : Nat, kp w1 w5 w6 w7 = true → post ((nI S0), (nI w1), S2, A1, (zq_g A2), (zq_g w5), (zq_g w6), (zq_g w7), A6, A7, A8, A9, A10, A11, A12, A13, A14, A15, A16, A17)) (fu : Nat) : ∀ (x1 : Nat) (A3 : Nat) (A4 : Nat) (A5 : Nat) (e_x1 : Int32), zb_X_countAll_57 kp S0 S1 A2 fu x1 A3 A4 A5 = true → e_x1 = nI x1 → wX_countAll_57 post (nI S0) (nI S1) S2 fu e_x1 A1 (zq_g A2) (zq_g A3) (zq_g A4) (zq_g A5) A6 A7 A8 A9 A10 A11 A12 A13 A14 A15 A16 A17 := by
  induction fu with
  | zero => intro x1 A3 A4 A5 e_x1 h q_x1; exact absurd h Bool.false_ne_true
  | succ n ih =>
    intro x1 A3 A4 A5 e_x1 h q_x1
    subst q_x1; have h : (zq_if (zq_le (nat_lit 5) x1)
        (kp S1 A3 A4 A5)
        (zq_if (zq_in x1 (nat_lit 5))
        (zq_fc (zq_set A5 (zq_cl x1) (nat_lit 0)) (fun a5_6 => zb_X_countAll_71 kp (zb_X_countAll_57 kp S0 S1 A2 n) x1 S0 S1 A2 40 (nat_lit 0) A3 A4 a5_6)) false)) = true := h
    exact zq_br h (zq_cle rfl rfl)
        (fun h => hp _ _ _ _ h)
        (fun h => zq_vi h rfl (by decide) (fun h => zq_up h rfl rfl (fun a5_6 h => Exists.intro 40 (zs_X_countAll_71 h rfl rfl hp (fun y0 y1 y2 y3 h => ih y0 y1 y2 y3 _ h rfl)))))
theorem zs_X_countAll_57 {post : St2 → Prop} {kp : Nat → Nat → Nat → Nat → Bool} {S0 : Nat} {S1 : Nat} {A2 : Nat} {x1 : Nat} {A3 : Nat} {A4 : Nat} {A5 : Nat} {S2 : Int32} {A1 : Nat → Int32} {A6 : Nat → Int32} {A7 : Nat → Int32} {A8 : Nat → Int32} {A9 : Nat → Int32} {A10 : Nat → Int32} {A11 : Nat → Int32} {A12 : Nat → Int32} {A13 : Nat → Int32} {A14 : Nat → Int32} {A15 : Nat → Int32} {A16 : Nat → Int32} {A17 : Nat → Int32} {e_x1 : Int32} {fu : Nat} (h : zb_X_countAll_57 kp S0 S1 A2 fu x1 A3 A4 A5 = true) (q_x1 : e_x1 = nI x1) (hp : ∀ w1 w5 w6 w7 : Nat, kp w1 w5 w6 w7 = true → post ((nI S0), (nI w1), S2, A1, (zq_g A2), (zq_g w5), (zq_g w6), (zq_g w7), A6, A7, A8, A9, A10, A11, A12, A13, A14, A15, A16, A17)) : wX_countAll_57 post (nI S0) (nI S1) S2 fu e_x1 A1 (zq_g A2) (zq_g A3) (zq_g A4) (zq_g A5) A6 A7 A8 A9 A10 A11 A12 A13 A14 A15 A16 A17 := by
  exact zr_X_countAll_57 hp fu _ _ _ _ _ h q_x1
noncomputable def zb_X_countAll_36 (kp : Nat → Nat → Nat → Nat → Bool) (S0 : Nat) (A2 : Nat) : Nat → Nat → Nat → Nat → Nat → Nat → Bool := fun fu => @Nat.rec (fun _ => Nat → Nat → Nat → Nat → Nat → Bool) (fun _ _ _ _ _ => false) (fun _ ih => fun x1 S1 A3 A4 A5 =>
        zq_if (zq_le S0 x1)
        (zb_X_countAll_57 kp S0 S1 A2 40 (nat_lit 0) A3 A4 A5)
        (zb_X_countBallot (fun am463_34 => zq_fc (zq_add x1 (nat_lit 1)) (fun x1_77 => ih x1_77 S1 am463_34 A4 A5)) x1 A2 A3)) fu
theorem zr_X_countAll_36 {post : St2 → Prop} {kp : Nat → Nat → Nat → Nat → Bool} {S0 : Nat} {A2 : Nat} {S2 : Int32} {A1 : Nat → Int32} {A6 : Nat → Int32} {A7 : Nat → Int32} {A8 : Nat → Int32} {A9 : Nat → Int32} {A10 : Nat → Int32} {A11 : Nat → Int32} {A12 : Nat → Int32} {A13 : Nat → Int32} {A14 : Nat → Int32} {A15 : Nat → Int32} {A16 : Nat → Int32} {A17 : Nat → Int32} (hp : ∀ w1 w5 w6 w7 : Nat, kp w1 w5 w6 w7 = true → post ((nI S0), (nI w1), S2, A1, (zq_g A2), (zq_g w5), (zq_g w6), (zq_g w7), A6, A7, A8, A9, A10, A11, A12, A13, A14, A15, A16, A17)) (fu : Nat) : ∀ (x1 : Nat) (S1 : Nat) (A3 : Nat) (A4 : Nat) (A5 : Nat) (e_x1 : Int32), zb_X_countAll_36 kp S0 A2 fu x1 S1 A3 A4 A5 = true → e_x1 = nI x1 → wX_countAll_36 post fu e_x1 (nI S0) (nI S1) S2 A1 (zq_g A2) (zq_g A3) (zq_g A4) (zq_g A5) A6 A7 A8 A9 A10 A11 A12 A13 A14 A15 A16 A17 := by
  induction fu with
  | zero => intro x1 S1 A3 A4 A5 e_x1 h q_x1; exact absurd h Bool.false_ne_true
  | succ n ih =>
    intro x1 S1 A3 A4 A5 e_x1 h q_x1
    subst q_x1; have h : (zq_if (zq_le S0 x1)
        (zb_X_countAll_57 kp S0 S1 A2 40 (nat_lit 0) A3 A4 A5)
        (zb_X_countBallot (fun am463_34 => zq_fc (zq_add x1 (nat_lit 1)) (fun x1_77 => (zb_X_countAll_36 kp S0 A2 n) x1_77 S1 am463_34 A4 A5)) x1 A2 A3)) = true := h
    exact zq_br h (zq_cle rfl rfl)
        (fun h => Exists.intro 40 (zs_X_countAll_57 h rfl hp))
        (fun h => zs_X_countBallot h rfl (fun am463_34 h => zq_ly h (zq_hadd rfl rfl) (fun x1_77 h => ih _ _ _ _ _ _ h rfl)))
theorem zs_X_countAll_36 {post : St2 → Prop} {kp : Nat → Nat → Nat → Nat → Bool} {S0 : Nat} {A2 : Nat} {x1 : Nat} {S1 : Nat} {A3 : Nat} {A4 : Nat} {A5 : Nat} {S2 : Int32} {A1 : Nat → Int32} {A6 : Nat → Int32} {A7 : Nat → Int32} {A8 : Nat → Int32} {A9 : Nat → Int32} {A10 : Nat → Int32} {A11 : Nat → Int32} {A12 : Nat → Int32} {A13 : Nat → Int32} {A14 : Nat → Int32} {A15 : Nat → Int32} {A16 : Nat → Int32} {A17 : Nat → Int32} {e_x1 : Int32} {fu : Nat} (h : zb_X_countAll_36 kp S0 A2 fu x1 S1 A3 A4 A5 = true) (q_x1 : e_x1 = nI x1) (hp : ∀ w1 w5 w6 w7 : Nat, kp w1 w5 w6 w7 = true → post ((nI S0), (nI w1), S2, A1, (zq_g A2), (zq_g w5), (zq_g w6), (zq_g w7), A6, A7, A8, A9, A10, A11, A12, A13, A14, A15, A16, A17)) : wX_countAll_36 post fu e_x1 (nI S0) (nI S1) S2 A1 (zq_g A2) (zq_g A3) (zq_g A4) (zq_g A5) A6 A7 A8 A9 A10 A11 A12 A13 A14 A15 A16 A17 := by
  exact zr_X_countAll_36 hp fu _ _ _ _ _ _ h q_x1
noncomputable def zb_X_countAll_15 (kp : Nat → Nat → Nat → Nat → Bool) (S0 : Nat) (S1 : Nat) (A2 : Nat) : Nat → Nat → Nat → Nat → Nat → Bool := fun fu => @Nat.rec (fun _ => Nat → Nat → Nat → Nat → Bool) (fun _ _ _ _ => false) (fun _ ih => fun x1 A3 A4 A5 =>
        zq_if (zq_le (nat_lit 25) x1)
        (zb_X_countAll_36 kp S0 A2 40 (nat_lit 0) S1 A3 A4 A5)
        (zq_if (zq_in x1 (nat_lit 25))
        (zq_fc (zq_set A3 (zq_cl x1) (nat_lit 0)) (fun a3_79 => zq_fc (zq_add x1 (nat_lit 1)) (fun x1_80 => ih x1_80 a3_79 A4 A5))) false)) fu
theorem zr_X_countAll_15 {post : St2 → Prop} {kp : Nat → Nat → Nat → Nat → Bool} {S0 : Nat} {S1 : Nat} {A2 : Nat} {S2 : Int32} {A1 : Nat → Int32} {A6 : Nat → Int32} {A7 : Nat → Int32} {A8 : Nat → Int32} {A9 : Nat → Int32} {A10 : Nat → Int32} {A11 : Nat → Int32} {A12 : Nat → Int32} {A13 : Nat → Int32} {A14 : Nat → Int32} {A15 : Nat → Int32} {A16 : Nat → Int32} {A17 : Nat → Int32} (hp : ∀ w1 w5 w6 w7 : Nat, kp w1 w5 w6 w7 = true → post ((nI S0), (nI w1), S2, A1, (zq_g A2), (zq_g w5), (zq_g w6), (zq_g w7), A6, A7, A8, A9, A10, A11, A12, A13, A14, A15, A16, A17)) (fu : Nat) : ∀ (x1 : Nat) (A3 : Nat) (A4 : Nat) (A5 : Nat) (e_x1 : Int32), zb_X_countAll_15 kp S0 S1 A2 fu x1 A3 A4 A5 = true → e_x1 = nI x1 → wX_countAll_15 post (nI S0) (nI S1) S2 fu e_x1 A1 (zq_g A2) (zq_g A3) (zq_g A4) (zq_g A5) A6 A7 A8 A9 A10 A11 A12 A13 A14 A15 A16 A17 := by
  induction fu with
  | zero => intro x1 A3 A4 A5 e_x1 h q_x1; exact absurd h Bool.false_ne_true
  | succ n ih =>
    intro x1 A3 A4 A5 e_x1 h q_x1
    subst q_x1; have h : (zq_if (zq_le (nat_lit 25) x1)
        (zb_X_countAll_36 kp S0 A2 40 (nat_lit 0) S1 A3 A4 A5)
        (zq_if (zq_in x1 (nat_lit 25))
        (zq_fc (zq_set A3 (zq_cl x1) (nat_lit 0)) (fun a3_79 => zq_fc (zq_add x1 (nat_lit 1)) (fun x1_80 => (zb_X_countAll_15 kp S0 S1 A2 n) x1_80 a3_79 A4 A5))) false)) = true := h
    exact zq_br h (zq_cle rfl rfl)
        (fun h => Exists.intro 40 (zs_X_countAll_36 h rfl hp))
        (fun h => zq_vi h rfl (by decide) (fun h => zq_up h rfl rfl (fun a3_79 h => zq_ly h (zq_hadd rfl rfl) (fun x1_80 h => ih _ _ _ _ _ h rfl))))
theorem zs_X_countAll_15 {post : St2 → Prop} {kp : Nat → Nat → Nat → Nat → Bool} {S0 : Nat} {S1 : Nat} {A2 : Nat} {x1 : Nat} {A3 : Nat} {A4 : Nat} {A5 : Nat} {S2 : Int32} {A1 : Nat → Int32} {A6 : Nat → Int32} {A7 : Nat → Int32} {A8 : Nat → Int32} {A9 : Nat → Int32} {A10 : Nat → Int32} {A11 : Nat → Int32} {A12 : Nat → Int32} {A13 : Nat → Int32} {A14 : Nat → Int32} {A15 : Nat → Int32} {A16 : Nat → Int32} {A17 : Nat → Int32} {e_x1 : Int32} {fu : Nat} (h : zb_X_countAll_15 kp S0 S1 A2 fu x1 A3 A4 A5 = true) (q_x1 : e_x1 = nI x1) (hp : ∀ w1 w5 w6 w7 : Nat, kp w1 w5 w6 w7 = true → post ((nI S0), (nI w1), S2, A1, (zq_g A2), (zq_g w5), (zq_g w6), (zq_g w7), A6, A7, A8, A9, A10, A11, A12, A13, A14, A15, A16, A17)) : wX_countAll_15 post (nI S0) (nI S1) S2 fu e_x1 A1 (zq_g A2) (zq_g A3) (zq_g A4) (zq_g A5) A6 A7 A8 A9 A10 A11 A12 A13 A14 A15 A16 A17 := by
  exact zr_X_countAll_15 hp fu _ _ _ _ _ h q_x1
noncomputable def zb_X_countAll (kp : Nat → Nat → Nat → Nat → Bool) (S0 : Nat) (S1 : Nat) (A2 : Nat) (A3 : Nat) (A4 : Nat) (A5 : Nat) : Bool :=
        zq_if (zq_eq S1 (nat_lit 0))
        (zb_X_countAll_15 kp S0 (nat_lit 1) A2 40 (nat_lit 0) A3 A4 A5)
        (kp S1 A3 A4 A5)
theorem zs_X_countAll {post : St2 → Prop} {kp : Nat → Nat → Nat → Nat → Bool} {S0 : Nat} {S1 : Nat} {A2 : Nat} {A3 : Nat} {A4 : Nat} {A5 : Nat} {S2 : Int32} {A1 : Nat → Int32} {A6 : Nat → Int32} {A7 : Nat → Int32} {A8 : Nat → Int32} {A9 : Nat → Int32} {A10 : Nat → Int32} {A11 : Nat → Int32} {A12 : Nat → Int32} {A13 : Nat → Int32} {A14 : Nat → Int32} {A15 : Nat → Int32} {A16 : Nat → Int32} {A17 : Nat → Int32} (h : zb_X_countAll kp S0 S1 A2 A3 A4 A5 = true) (hp : ∀ w1 w5 w6 w7 : Nat, kp w1 w5 w6 w7 = true → post ((nI S0), (nI w1), S2, A1, (zq_g A2), (zq_g w5), (zq_g w6), (zq_g w7), A6, A7, A8, A9, A10, A11, A12, A13, A14, A15, A16, A17)) : wpX_countAll post ((nI S0), (nI S1), S2, A1, (zq_g A2), (zq_g A3), (zq_g A4), (zq_g A5), A6, A7, A8, A9, A10, A11, A12, A13, A14, A15, A16, A17) := by
  have h : (zq_if (zq_eq S1 (nat_lit 0))
        (zb_X_countAll_15 kp S0 (nat_lit 1) A2 40 (nat_lit 0) A3 A4 A5)
        (kp S1 A3 A4 A5)) = true := h
  exact zq_br h (zq_ceq rfl rfl)
        (fun h => Exists.intro 40 (zs_X_countAll_15 h rfl hp))
        (fun h => hp _ _ _ _ h)
noncomputable def zb_X_removalsOf_90 (kp : Nat → Bool) (kJ4 : Nat → Nat → Bool) (x1 : Nat) (x2 : Nat) (x3 : Nat) (x4 : Nat) (x5 : Nat) (S0 : Nat) (A3 : Nat) : Bool :=
        zq_if (zq_eq x5 (nat_lit 0))
        (zq_fc (zq_add x3 (nat_lit 1)) (fun x3_7 => kJ4 x2 x3_7))
        (zq_fc (zq_add x3 (nat_lit 1)) (fun x3_8 => kJ4 x4 x3_8))
theorem zs_X_removalsOf_90 {post : Int32 → Prop} {J4 : Int32 → Int32 → Prop} {kp : Nat → Bool} {kJ4 : Nat → Nat → Bool} {x1 : Nat} {x2 : Nat} {x3 : Nat} {x4 : Nat} {x5 : Nat} {S0 : Nat} {A3 : Nat} {S1 : Int32} {S2 : Int32} {A1 : Nat → Int32} {A2 : Nat → Int32} {A4 : Nat → Int32} {A5 : Nat → Int32} {A6 : Nat → Int32} {A7 : Nat → Int32} {A8 : Nat → Int32} {A9 : Nat → Int32} {A10 : Nat → Int32} {A11 : Nat → Int32} {A12 : Nat → Int32} {A13 : Nat → Int32} {A14 : Nat → Int32} {A15 : Nat → Int32} {A16 : Nat → Int32} {A17 : Nat → Int32} {e_x1 : Int32} {e_x2 : Int32} {e_x3 : Int32} {e_x4 : Int32} {e_x5 : Int32} (h : zb_X_removalsOf_90 kp kJ4 x1 x2 x3 x4 x5 S0 A3 = true) (q_x1 : e_x1 = nI x1) (q_x2 : e_x2 = nI x2) (q_x3 : e_x3 = nI x3) (q_x4 : e_x4 = nI x4) (q_x5 : e_x5 = nI x5) (hp : ∀ r : Nat, kp r = true → post (nI r)) (hJ4 : ∀ y_x2 y_x3 : Nat, kJ4 y_x2 y_x3 = true → J4 (nI y_x2) (nI y_x3)) : wX_removalsOf_90 post J4 e_x1 e_x2 e_x3 e_x4 e_x5 (nI S0) S1 S2 A1 A2 (zq_g A3) A4 A5 A6 A7 A8 A9 A10 A11 A12 A13 A14 A15 A16 A17 := by
  subst q_x1; subst q_x2; subst q_x3; subst q_x4; subst q_x5; have h : (zq_if (zq_eq x5 (nat_lit 0))
        (zq_fc (zq_add x3 (nat_lit 1)) (fun x3_7 => kJ4 x2 x3_7))
        (zq_fc (zq_add x3 (nat_lit 1)) (fun x3_8 => kJ4 x4 x3_8))) = true := h
  exact zq_br h (zq_ceq rfl rfl)
        (fun h => zq_ly h (zq_hadd rfl rfl) (fun x3_7 h => hJ4 _ _ h))
        (fun h => zq_ly h (zq_hadd rfl rfl) (fun x3_8 h => hJ4 _ _ h))
noncomputable def zb_X_removalsOf_36 (kp : Nat → Bool) (kJ4 : Nat → Nat → Bool) (x1 : Nat) (x2 : Nat) (x3 : Nat) (x4 : Nat) (S0 : Nat) (A3 : Nat) : Nat → Nat → Nat → Bool := fun fu => @Nat.rec (fun _ => Nat → Nat → Bool) (fun _ _ => false) (fun _ ih => fun x5 x6 =>
        zq_if (zq_le (nat_lit 5) x6)
        (zb_X_removalsOf_90 kp kJ4 x1 x2 x3 x4 x5 S0 A3)
        (zq_if (zq_eq x5 (nat_lit 0))
        (zb_X_removalsOf_90 kp kJ4 x1 x2 x3 x4 x5 S0 A3)
        (zq_if (zq_eq x6 x1)
        (zq_fc (zq_add x6 (nat_lit 1)) (fun x6_11 => ih (nat_lit 1) x6_11))
        (zq_if (zq_in (zq_add (zq_mul (nat_lit 5) x1) x6) (nat_lit 25))
        (zq_fc (zq_and (zq_get A3 (zq_cl (zq_add (zq_mul (nat_lit 5) x1) x6))) x3) (fun y1 => zb_X_onesIn (fun r_13 => zq_if (zq_le (zq_mul (nat_lit 2) r_13) x4)
        (zq_fc (zq_add x6 (nat_lit 1)) (fun x6_15 => ih (nat_lit 0) x6_15))
        (zq_fc (zq_add x6 (nat_lit 1)) (fun x6_16 => ih (nat_lit 1) x6_16))) y1)) false)))) fu
theorem zr_X_removalsOf_36 {post : Int32 → Prop} {J4 : Int32 → Int32 → Prop} {kp : Nat → Bool} {kJ4 : Nat → Nat → Bool} {x1 : Nat} {x2 : Nat} {x3 : Nat} {x4 : Nat} {S0 : Nat} {A3 : Nat} {S1 : Int32} {S2 : Int32} {A1 : Nat → Int32} {A2 : Nat → Int32} {A4 : Nat → Int32} {A5 : Nat → Int32} {A6 : Nat → Int32} {A7 : Nat → Int32} {A8 : Nat → Int32} {A9 : Nat → Int32} {A10 : Nat → Int32} {A11 : Nat → Int32} {A12 : Nat → Int32} {A13 : Nat → Int32} {A14 : Nat → Int32} {A15 : Nat → Int32} {A16 : Nat → Int32} {A17 : Nat → Int32} (hp : ∀ r : Nat, kp r = true → post (nI r)) (hJ4 : ∀ y_x2 y_x3 : Nat, kJ4 y_x2 y_x3 = true → J4 (nI y_x2) (nI y_x3)) (fu : Nat) : ∀ (x5 : Nat) (x6 : Nat) (e_x5 : Int32) (e_x6 : Int32), zb_X_removalsOf_36 kp kJ4 x1 x2 x3 x4 S0 A3 fu x5 x6 = true → e_x5 = nI x5 → e_x6 = nI x6 → wX_removalsOf_36 post J4 (nI x1) (nI x2) (nI x3) (nI x4) (nI S0) S1 S2 A1 A2 (zq_g A3) A4 A5 A6 A7 A8 A9 A10 A11 A12 A13 A14 A15 A16 A17 fu e_x5 e_x6 := by
  induction fu with
  | zero => intro x5 x6 e_x5 e_x6 h q_x5 q_x6; exact absurd h Bool.false_ne_true
  | succ n ih =>
    intro x5 x6 e_x5 e_x6 h q_x5 q_x6
    subst q_x5; subst q_x6; have h : (zq_if (zq_le (nat_lit 5) x6)
        (zb_X_removalsOf_90 kp kJ4 x1 x2 x3 x4 x5 S0 A3)
        (zq_if (zq_eq x5 (nat_lit 0))
        (zb_X_removalsOf_90 kp kJ4 x1 x2 x3 x4 x5 S0 A3)
        (zq_if (zq_eq x6 x1)
        (zq_fc (zq_add x6 (nat_lit 1)) (fun x6_11 => (zb_X_removalsOf_36 kp kJ4 x1 x2 x3 x4 S0 A3 n) (nat_lit 1) x6_11))
        (zq_if (zq_in (zq_add (zq_mul (nat_lit 5) x1) x6) (nat_lit 25))
        (zq_fc (zq_and (zq_get A3 (zq_cl (zq_add (zq_mul (nat_lit 5) x1) x6))) x3) (fun y1 => zb_X_onesIn (fun r_13 => zq_if (zq_le (zq_mul (nat_lit 2) r_13) x4)
        (zq_fc (zq_add x6 (nat_lit 1)) (fun x6_15 => (zb_X_removalsOf_36 kp kJ4 x1 x2 x3 x4 S0 A3 n) (nat_lit 0) x6_15))
        (zq_fc (zq_add x6 (nat_lit 1)) (fun x6_16 => (zb_X_removalsOf_36 kp kJ4 x1 x2 x3 x4 S0 A3 n) (nat_lit 1) x6_16))) y1)) false)))) = true := h
    exact zq_br h (zq_cle rfl rfl)
        (fun h => zs_X_removalsOf_90 h rfl rfl rfl rfl rfl hp hJ4)
        (fun h => zq_br h (zq_ceq rfl rfl)
        (fun h => zs_X_removalsOf_90 h rfl rfl rfl rfl rfl hp hJ4)
        (fun h => zq_br h (zq_ceq rfl rfl)
        (fun h => zq_ly h (zq_hadd rfl rfl) (fun x6_11 h => ih _ _ _ _ h rfl rfl))
        (fun h => zq_vi h (zq_hadd (zq_hmul rfl rfl) rfl) (by decide) (fun h => have h := zq_fe h; zs_X_onesIn h (zq_hand (zq_rd (zq_hadd (zq_hmul rfl rfl) rfl)) rfl) (fun r_13 h => zq_br h (zq_cle (zq_hmul rfl rfl) rfl)
        (fun h => zq_ly h (zq_hadd rfl rfl) (fun x6_15 h => ih _ _ _ _ h rfl rfl))
        (fun h => zq_ly h (zq_hadd rfl rfl) (fun x6_16 h => ih _ _ _ _ h rfl rfl)))))))
theorem zs_X_removalsOf_36 {post : Int32 → Prop} {J4 : Int32 → Int32 → Prop} {kp : Nat → Bool} {kJ4 : Nat → Nat → Bool} {x1 : Nat} {x2 : Nat} {x3 : Nat} {x4 : Nat} {S0 : Nat} {A3 : Nat} {x5 : Nat} {x6 : Nat} {S1 : Int32} {S2 : Int32} {A1 : Nat → Int32} {A2 : Nat → Int32} {A4 : Nat → Int32} {A5 : Nat → Int32} {A6 : Nat → Int32} {A7 : Nat → Int32} {A8 : Nat → Int32} {A9 : Nat → Int32} {A10 : Nat → Int32} {A11 : Nat → Int32} {A12 : Nat → Int32} {A13 : Nat → Int32} {A14 : Nat → Int32} {A15 : Nat → Int32} {A16 : Nat → Int32} {A17 : Nat → Int32} {e_x1 : Int32} {e_x2 : Int32} {e_x3 : Int32} {e_x4 : Int32} {e_x5 : Int32} {e_x6 : Int32} {fu : Nat} (h : zb_X_removalsOf_36 kp kJ4 x1 x2 x3 x4 S0 A3 fu x5 x6 = true) (q_x1 : e_x1 = nI x1) (q_x2 : e_x2 = nI x2) (q_x3 : e_x3 = nI x3) (q_x4 : e_x4 = nI x4) (q_x5 : e_x5 = nI x5) (q_x6 : e_x6 = nI x6) (hp : ∀ r : Nat, kp r = true → post (nI r)) (hJ4 : ∀ y_x2 y_x3 : Nat, kJ4 y_x2 y_x3 = true → J4 (nI y_x2) (nI y_x3)) : wX_removalsOf_36 post J4 e_x1 e_x2 e_x3 e_x4 (nI S0) S1 S2 A1 A2 (zq_g A3) A4 A5 A6 A7 A8 A9 A10 A11 A12 A13 A14 A15 A16 A17 fu e_x5 e_x6 := by
  subst q_x1; subst q_x2; subst q_x3; subst q_x4; exact zr_X_removalsOf_36 hp hJ4 fu _ _ _ _ h q_x5 q_x6
noncomputable def zb_X_removalsOf_4 (kp : Nat → Bool) (x1 : Nat) (S0 : Nat) (A3 : Nat) : Nat → Nat → Nat → Bool := fun fu => @Nat.rec (fun _ => Nat → Nat → Bool) (fun _ _ => false) (fun _ ih => fun x2 x3 =>
        zq_if (zq_le (zq_shl (nat_lit 1) S0) x3)
        (zq_if (zq_eq x2 (nat_lit 0))
        (kp (nat_lit 4294966294))
        (zq_fc (zq_sub S0 x2) (fun y1 => kp y1)))
        (zb_X_onesIn (fun r_3 => zq_if (zq_lt x2 r_3)
        (zb_X_removalsOf_36 kp ih x1 x2 x3 r_3 S0 A3 40 (nat_lit 1) (nat_lit 0))
        (zq_fc (zq_add x3 (nat_lit 1)) (fun x3_17 => ih x2 x3_17))) x3)) fu
theorem zr_X_removalsOf_4 {post : Int32 → Prop} {kp : Nat → Bool} {x1 : Nat} {S0 : Nat} {A3 : Nat} {S1 : Int32} {S2 : Int32} {A1 : Nat → Int32} {A2 : Nat → Int32} {A4 : Nat → Int32} {A5 : Nat → Int32} {A6 : Nat → Int32} {A7 : Nat → Int32} {A8 : Nat → Int32} {A9 : Nat → Int32} {A10 : Nat → Int32} {A11 : Nat → Int32} {A12 : Nat → Int32} {A13 : Nat → Int32} {A14 : Nat → Int32} {A15 : Nat → Int32} {A16 : Nat → Int32} {A17 : Nat → Int32} (hp : ∀ r : Nat, kp r = true → post (nI r)) (fu : Nat) : ∀ (x2 : Nat) (x3 : Nat) (e_x2 : Int32) (e_x3 : Int32), zb_X_removalsOf_4 kp x1 S0 A3 fu x2 x3 = true → e_x2 = nI x2 → e_x3 = nI x3 → wX_removalsOf_4 post (nI x1) (nI S0) S1 S2 A1 A2 (zq_g A3) A4 A5 A6 A7 A8 A9 A10 A11 A12 A13 A14 A15 A16 A17 fu e_x2 e_x3 := by
  induction fu with
  | zero => intro x2 x3 e_x2 e_x3 h q_x2 q_x3; exact absurd h Bool.false_ne_true
  | succ n ih =>
    intro x2 x3 e_x2 e_x3 h q_x2 q_x3
    subst q_x2; subst q_x3; have h : (zq_if (zq_le (zq_shl (nat_lit 1) S0) x3)
        (zq_if (zq_eq x2 (nat_lit 0))
        (kp (nat_lit 4294966294))
        (zq_fc (zq_sub S0 x2) (fun y1 => kp y1)))
        (zb_X_onesIn (fun r_3 => zq_if (zq_lt x2 r_3)
        (zb_X_removalsOf_36 kp (zb_X_removalsOf_4 kp x1 S0 A3 n) x1 x2 x3 r_3 S0 A3 40 (nat_lit 1) (nat_lit 0))
        (zq_fc (zq_add x3 (nat_lit 1)) (fun x3_17 => (zb_X_removalsOf_4 kp x1 S0 A3 n) x2 x3_17))) x3)) = true := h
    exact zq_br h (zq_cle (zq_hshl rfl rfl) rfl)
        (fun h => zq_br h (zq_ceq rfl rfl)
        (fun h => Eq.mpr (congrArg post zq_m1002) (hp _ h))
        (fun h => have h := zq_fe h; Eq.mpr (congrArg post (zq_hsub rfl rfl)) (hp _ h)))
        (fun h => zs_X_onesIn h rfl (fun r_3 h => zq_br h (zq_clt rfl rfl)
        (fun h => Exists.intro 40 (zs_X_removalsOf_36 h rfl rfl rfl rfl rfl rfl hp (fun y0 y1 h => ih y0 y1 _ _ h rfl rfl)))
        (fun h => zq_ly h (zq_hadd rfl rfl) (fun x3_17 h => ih _ _ _ _ h rfl rfl))))
theorem zs_X_removalsOf_4 {post : Int32 → Prop} {kp : Nat → Bool} {x1 : Nat} {S0 : Nat} {A3 : Nat} {x2 : Nat} {x3 : Nat} {S1 : Int32} {S2 : Int32} {A1 : Nat → Int32} {A2 : Nat → Int32} {A4 : Nat → Int32} {A5 : Nat → Int32} {A6 : Nat → Int32} {A7 : Nat → Int32} {A8 : Nat → Int32} {A9 : Nat → Int32} {A10 : Nat → Int32} {A11 : Nat → Int32} {A12 : Nat → Int32} {A13 : Nat → Int32} {A14 : Nat → Int32} {A15 : Nat → Int32} {A16 : Nat → Int32} {A17 : Nat → Int32} {e_x1 : Int32} {e_x2 : Int32} {e_x3 : Int32} {fu : Nat} (h : zb_X_removalsOf_4 kp x1 S0 A3 fu x2 x3 = true) (q_x1 : e_x1 = nI x1) (q_x2 : e_x2 = nI x2) (q_x3 : e_x3 = nI x3) (hp : ∀ r : Nat, kp r = true → post (nI r)) : wX_removalsOf_4 post e_x1 (nI S0) S1 S2 A1 A2 (zq_g A3) A4 A5 A6 A7 A8 A9 A10 A11 A12 A13 A14 A15 A16 A17 fu e_x2 e_x3 := by
  subst q_x1; exact zr_X_removalsOf_4 hp fu _ _ _ _ h q_x2 q_x3
noncomputable def zb_X_removalsOf (kp : Nat → Bool) (p0 : Nat) (S0 : Nat) (A3 : Nat) : Bool :=
        zb_X_removalsOf_4 kp p0 S0 A3 40 (nat_lit 0) (nat_lit 1)
theorem zs_X_removalsOf {post : Int32 → Prop} {kp : Nat → Bool} {p0 : Nat} {S0 : Nat} {A3 : Nat} {S1 : Int32} {S2 : Int32} {A1 : Nat → Int32} {A2 : Nat → Int32} {A4 : Nat → Int32} {A5 : Nat → Int32} {A6 : Nat → Int32} {A7 : Nat → Int32} {A8 : Nat → Int32} {A9 : Nat → Int32} {A10 : Nat → Int32} {A11 : Nat → Int32} {A12 : Nat → Int32} {A13 : Nat → Int32} {A14 : Nat → Int32} {A15 : Nat → Int32} {A16 : Nat → Int32} {A17 : Nat → Int32} {e_p0 : Int32} (h : zb_X_removalsOf kp p0 S0 A3 = true) (q_p0 : e_p0 = nI p0) (hp : ∀ r : Nat, kp r = true → post (nI r)) : wpX_removalsOf post ((nI S0), S1, S2, A1, A2, (zq_g A3), A4, A5, A6, A7, A8, A9, A10, A11, A12, A13, A14, A15, A16, A17) e_p0 := by
  subst q_p0; have h : (zb_X_removalsOf_4 kp p0 S0 A3 40 (nat_lit 0) (nat_lit 1)) = true := h
  exact Exists.intro 40 (zs_X_removalsOf_4 h rfl rfl rfl hp)
noncomputable def zb_X_findLacking_68 (kp : Nat → Nat → Nat → Bool) (kJ10 : Nat → Nat → Nat → Nat → Nat → Nat → Bool) (x1 : Nat) (x2 : Nat) (x3 : Nat) (x4 : Nat) (x5 : Nat) (z0 : Nat) (z1 : Nat) (A4 : Nat) (A14 : Nat) (A15 : Nat) : Bool :=
        zq_if (zq_in z1 (nat_lit 4))
        (zq_fc (zq_set A14 (zq_cl z1) (zq_i8 z0)) (fun a14_10 => zq_if (zq_in x2 (nat_lit 4))
        (zq_fc (zq_add x3 (zq_mul x4 (zq_get a14_10 (zq_cl x2)))) (fun x3_12 => zq_fc (zq_mul x4 (nat_lit 6)) (fun x4_13 => zq_fc (zq_add x2 (nat_lit 1)) (fun x2_14 => zq_fc (zq_add x5 (nat_lit 1)) (fun x5_15 => kJ10 x2_14 x3_12 x4_13 x5_15 a14_10 A15))))) false)) false
theorem zs_X_findLacking_68 {post : Int32 → St2 → Prop} {J10 : Int32 → Int32 → Int32 → Int32 → (Nat → Int32) → (Nat → Int32) → (Nat → Int32) → (Nat → Int32) → (Nat → Int32) → (Nat → Int32) → (Nat → Int32) → (Nat → Int32) → (Nat → Int32) → (Nat → Int32) → (Nat → Int32) → (Nat → Int32) → (Nat → Int32) → (Nat → Int32) → (Nat → Int32) → (Nat → Int32) → (Nat → Int32) → Prop} {kp : Nat → Nat → Nat → Bool} {kJ10 : Nat → Nat → Nat → Nat → Nat → Nat → Bool} {x1 : Nat} {x2 : Nat} {x3 : Nat} {x4 : Nat} {x5 : Nat} {z0 : Nat} {z1 : Nat} {A4 : Nat} {A14 : Nat} {A15 : Nat} {S0 : Int32} {S1 : Int32} {S2 : Int32} {A1 : Nat → Int32} {A2 : Nat → Int32} {A3 : Nat → Int32} {A5 : Nat → Int32} {A6 : Nat → Int32} {A7 : Nat → Int32} {A8 : Nat → Int32} {A9 : Nat → Int32} {A10 : Nat → Int32} {A11 : Nat → Int32} {A12 : Nat → Int32} {A13 : Nat → Int32} {A16 : Nat → Int32} {A17 : Nat → Int32} {e_x1 : Int32} {e_x2 : Int32} {e_x3 : Int32} {e_x4 : Int32} {e_x5 : Int32} {e_z0 : Int32} {e_z1 : Int32} (h : zb_X_findLacking_68 kp kJ10 x1 x2 x3 x4 x5 z0 z1 A4 A14 A15 = true) (q_x1 : e_x1 = nI x1) (q_x2 : e_x2 = nI x2) (q_x3 : e_x3 = nI x3) (q_x4 : e_x4 = nI x4) (q_x5 : e_x5 = nI x5) (q_z0 : e_z0 = nI z0) (q_z1 : e_z1 = nI z1) (hp : ∀ r w16 w17 : Nat, kp r w16 w17 = true → post (nI r) (S0, S1, S2, A1, A2, A3, (zq_g A4), A5, A6, A7, A8, A9, A10, A11, A12, A13, (zq_g w16), (zq_g w17), A16, A17)) (hJ10 : ∀ y_x2 y_x3 y_x4 y_x5 v16 v17 : Nat, kJ10 y_x2 y_x3 y_x4 y_x5 v16 v17 = true → J10 (nI y_x2) (nI y_x3) (nI y_x4) (nI y_x5) A1 A2 A3 (zq_g A4) A5 A6 A7 A8 A9 A10 A11 A12 A13 (zq_g v16) (zq_g v17) A16 A17) : wX_findLacking_68 post J10 e_x1 e_x2 e_x3 e_x4 e_x5 e_z0 e_z1 S0 S1 S2 A1 A2 A3 (zq_g A4) A5 A6 A7 A8 A9 A10 A11 A12 A13 (zq_g A14) (zq_g A15) A16 A17 := by
  subst q_x1; subst q_x2; subst q_x3; subst q_x4; subst q_x5; subst q_z0; subst q_z1; have h : (zq_if (zq_in z1 (nat_lit 4))
        (zq_fc (zq_set A14 (zq_cl z1) (zq_i8 z0)) (fun a14_10 => zq_if (zq_in x2 (nat_lit 4))
        (zq_fc (zq_add x3 (zq_mul x4 (zq_get a14_10 (zq_cl x2)))) (fun x3_12 => zq_fc (zq_mul x4 (nat_lit 6)) (fun x4_13 => zq_fc (zq_add x2 (nat_lit 1)) (fun x2_14 => zq_fc (zq_add x5 (nat_lit 1)) (fun x5_15 => kJ10 x2_14 x3_12 x4_13 x5_15 a14_10 A15))))) false)) false) = true := h
  exact zq_vi h rfl (by decide) (fun h => zq_up h rfl (zq_hi8 rfl) (fun a14_10 h => zq_vi h rfl (by decide) (fun h => zq_ly h (zq_hadd rfl (zq_hmul rfl (zq_rd rfl))) (fun x3_12 h => zq_ly h (zq_hmul rfl rfl) (fun x4_13 h => zq_ly h (zq_hadd rfl rfl) (fun x2_14 h => zq_ly h (zq_hadd rfl rfl) (fun x5_15 h => hJ10 _ _ _ _ _ _ h)))))))
noncomputable def zb_X_findLacking_10 (kp : Nat → Nat → Nat → Bool) (x1 : Nat) (A4 : Nat) : Nat → Nat → Nat → Nat → Nat → Nat → Nat → Bool := fun fu => @Nat.rec (fun _ => Nat → Nat → Nat → Nat → Nat → Nat → Bool) (fun _ _ _ _ _ _ => false) (fun _ ih => fun x2 x3 x4 x5 A14 A15 =>
        zq_if (zq_le (nat_lit 5) x5)
        (kp x3 A14 A15)
        (zq_if (zq_eq x5 x1)
        (zq_fc (zq_add x5 (nat_lit 1)) (fun x5_16 => ih x2 x3 x4 x5_16 A14 A15))
        (zq_if (zq_in (zq_add (zq_mul (nat_lit 5) x1) x5) (nat_lit 25))
        (zq_fc (zq_get A4 (zq_cl (zq_add (zq_mul (nat_lit 5) x1) x5))) (fun x6_4 => zq_if (zq_in x2 (nat_lit 4))
        (zq_fc (zq_set A15 (zq_cl x2) (zq_i8 x5)) (fun a15_6 => zq_if (zq_le x6_4 (nat_lit 0))
        (zq_fc (zq_add (zq_div (zq_neg x6_4) (nat_lit 2)) (nat_lit 1)) (fun y1 => zb_X_findLacking_68 kp ih x1 x2 x3 x4 x5 y1 x2 A4 A14 a15_6))
        (zb_X_findLacking_68 kp ih x1 x2 x3 x4 x5 (nat_lit 0) x2 A4 A14 a15_6))) false)) false))) fu
theorem zr_X_findLacking_10 {post : Int32 → St2 → Prop} {kp : Nat → Nat → Nat → Bool} {x1 : Nat} {A4 : Nat} {S0 : Int32} {S1 : Int32} {S2 : Int32} {A1 : Nat → Int32} {A2 : Nat → Int32} {A3 : Nat → Int32} {A5 : Nat → Int32} {A6 : Nat → Int32} {A7 : Nat → Int32} {A8 : Nat → Int32} {A9 : Nat → Int32} {A10 : Nat → Int32} {A11 : Nat → Int32} {A12 : Nat → Int32} {A13 : Nat → Int32} {A16 : Nat → Int32} {A17 : Nat → Int32} (hp : ∀ r w16 w17 : Nat, kp r w16 w17 = true → post (nI r) (S0, S1, S2, A1, A2, A3, (zq_g A4), A5, A6, A7, A8, A9, A10, A11, A12, A13, (zq_g w16), (zq_g w17), A16, A17)) (fu : Nat) : ∀ (x2 : Nat) (x3 : Nat) (x4 : Nat) (x5 : Nat) (A14 : Nat) (A15 : Nat) (e_x2 : Int32) (e_x3 : Int32) (e_x4 : Int32) (e_x5 : Int32), zb_X_findLacking_10 kp x1 A4 fu x2 x3 x4 x5 A14 A15 = true → e_x2 = nI x2 → e_x3 = nI x3 → e_x4 = nI x4 → e_x5 = nI x5 → wX_findLacking_10 post (nI x1) S0 S1 S2 fu e_x2 e_x3 e_x4 e_x5 A1 A2 A3 (zq_g A4) A5 A6 A7 A8 A9 A10 A11 A12 A13 (zq_g A14) (zq_g A15) A16 A17 := by
  induction fu with
  | zero => intro x2 x3 x4 x5 A14 A15 e_x2 e_x3 e_x4 e_x5 h q_x2 q_x3 q_x4 q_x5; exact absurd h Bool.false_ne_true
  | succ n ih =>
    intro x2 x3 x4 x5 A14 A15 e_x2 e_x3 e_x4 e_x5 h q_x2 q_x3 q_x4 q_x5
    subst q_x2; subst q_x3; subst q_x4; subst q_x5; have h : (zq_if (zq_le (nat_lit 5) x5)
        (kp x3 A14 A15)
        (zq_if (zq_eq x5 x1)
        (zq_fc (zq_add x5 (nat_lit 1)) (fun x5_16 => (zb_X_findLacking_10 kp x1 A4 n) x2 x3 x4 x5_16 A14 A15))
        (zq_if (zq_in (zq_add (zq_mul (nat_lit 5) x1) x5) (nat_lit 25))
        (zq_fc (zq_get A4 (zq_cl (zq_add (zq_mul (nat_lit 5) x1) x5))) (fun x6_4 => zq_if (zq_in x2 (nat_lit 4))
        (zq_fc (zq_set A15 (zq_cl x2) (zq_i8 x5)) (fun a15_6 => zq_if (zq_le x6_4 (nat_lit 0))
        (zq_fc (zq_add (zq_div (zq_neg x6_4) (nat_lit 2)) (nat_lit 1)) (fun y1 => zb_X_findLacking_68 kp (zb_X_findLacking_10 kp x1 A4 n) x1 x2 x3 x4 x5 y1 x2 A4 A14 a15_6))
        (zb_X_findLacking_68 kp (zb_X_findLacking_10 kp x1 A4 n) x1 x2 x3 x4 x5 (nat_lit 0) x2 A4 A14 a15_6))) false)) false))) = true := h
    exact zq_br h (zq_cle rfl rfl)
        (fun h => hp _ _ _ h)
        (fun h => zq_br h (zq_ceq rfl rfl)
        (fun h => zq_ly h (zq_hadd rfl rfl) (fun x5_16 h => ih _ _ _ _ _ _ _ _ _ _ h rfl rfl rfl rfl))
        (fun h => zq_vi h (zq_hadd (zq_hmul rfl rfl) rfl) (by decide) (fun h => zq_ly h (zq_rd (zq_hadd (zq_hmul rfl rfl) rfl)) (fun x6_4 h => zq_vi h rfl (by decide) (fun h => zq_up h rfl (zq_hi8 rfl) (fun a15_6 h => zq_br h (zq_cle rfl rfl)
        (fun h => And.intro (by decide) (have h := zq_fe h; zs_X_findLacking_68 h rfl rfl rfl rfl rfl (zq_hadd (zq_hdiv (zq_hneg rfl) rfl) rfl) rfl hp (fun y0 y1 y2 y3 y4 y5 h => ih y0 y1 y2 y3 y4 y5 _ _ _ _ h rfl rfl rfl rfl)))
        (fun h => zs_X_findLacking_68 h rfl rfl rfl rfl rfl rfl rfl hp (fun y0 y1 y2 y3 y4 y5 h => ih y0 y1 y2 y3 y4 y5 _ _ _ _ h rfl rfl rfl rfl))))))))
theorem zs_X_findLacking_10 {post : Int32 → St2 → Prop} {kp : Nat → Nat → Nat → Bool} {x1 : Nat} {A4 : Nat} {x2 : Nat} {x3 : Nat} {x4 : Nat} {x5 : Nat} {A14 : Nat} {A15 : Nat} {S0 : Int32} {S1 : Int32} {S2 : Int32} {A1 : Nat → Int32} {A2 : Nat → Int32} {A3 : Nat → Int32} {A5 : Nat → Int32} {A6 : Nat → Int32} {A7 : Nat → Int32} {A8 : Nat → Int32} {A9 : Nat → Int32} {A10 : Nat → Int32} {A11 : Nat → Int32} {A12 : Nat → Int32} {A13 : Nat → Int32} {A16 : Nat → Int32} {A17 : Nat → Int32} {e_x1 : Int32} {e_x2 : Int32} {e_x3 : Int32} {e_x4 : Int32} {e_x5 : Int32} {fu : Nat} (h : zb_X_findLacking_10 kp x1 A4 fu x2 x3 x4 x5 A14 A15 = true) (q_x1 : e_x1 = nI x1) (q_x2 : e_x2 = nI x2) (q_x3 : e_x3 = nI x3) (q_x4 : e_x4 = nI x4) (q_x5 : e_x5 = nI x5) (hp : ∀ r w16 w17 : Nat, kp r w16 w17 = true → post (nI r) (S0, S1, S2, A1, A2, A3, (zq_g A4), A5, A6, A7, A8, A9, A10, A11, A12, A13, (zq_g w16), (zq_g w17), A16, A17)) : wX_findLacking_10 post e_x1 S0 S1 S2 fu e_x2 e_x3 e_x4 e_x5 A1 A2 A3 (zq_g A4) A5 A6 A7 A8 A9 A10 A11 A12 A13 (zq_g A14) (zq_g A15) A16 A17 := by
  subst q_x1; exact zr_X_findLacking_10 hp fu _ _ _ _ _ _ _ _ _ _ h q_x2 q_x3 q_x4 q_x5
noncomputable def zb_X_findLacking (kp : Nat → Nat → Nat → Bool) (p0 : Nat) (A4 : Nat) (A14 : Nat) (A15 : Nat) : Bool :=
        zb_X_findLacking_10 kp p0 A4 40 (nat_lit 0) (nat_lit 0) (nat_lit 1) (nat_lit 0) A14 A15
theorem zs_X_findLacking {post : Int32 → St2 → Prop} {kp : Nat → Nat → Nat → Bool} {p0 : Nat} {A4 : Nat} {A14 : Nat} {A15 : Nat} {S0 : Int32} {S1 : Int32} {S2 : Int32} {A1 : Nat → Int32} {A2 : Nat → Int32} {A3 : Nat → Int32} {A5 : Nat → Int32} {A6 : Nat → Int32} {A7 : Nat → Int32} {A8 : Nat → Int32} {A9 : Nat → Int32} {A10 : Nat → Int32} {A11 : Nat → Int32} {A12 : Nat → Int32} {A13 : Nat → Int32} {A16 : Nat → Int32} {A17 : Nat → Int32} {e_p0 : Int32} (h : zb_X_findLacking kp p0 A4 A14 A15 = true) (q_p0 : e_p0 = nI p0) (hp : ∀ r w16 w17 : Nat, kp r w16 w17 = true → post (nI r) (S0, S1, S2, A1, A2, A3, (zq_g A4), A5, A6, A7, A8, A9, A10, A11, A12, A13, (zq_g w16), (zq_g w17), A16, A17)) : wpX_findLacking post (S0, S1, S2, A1, A2, A3, (zq_g A4), A5, A6, A7, A8, A9, A10, A11, A12, A13, (zq_g A14), (zq_g A15), A16, A17) e_p0 := by
  subst q_p0; have h : (zb_X_findLacking_10 kp p0 A4 40 (nat_lit 0) (nat_lit 0) (nat_lit 1) (nat_lit 0) A14 A15) = true := h
  exact Exists.intro 40 (zs_X_findLacking_10 h rfl rfl rfl rfl rfl hp)
noncomputable def zb_X_gainOver_5 (kp : Nat → Bool) (x1 : Nat) (x2 : Nat) (A15 : Nat) : Nat → Nat → Nat → Bool := fun fu => @Nat.rec (fun _ => Nat → Nat → Bool) (fun _ _ => false) (fun _ ih => fun x3 x4 =>
        zq_if (zq_in x4 (nat_lit 4))
        (zq_if (zq_eq (zq_get A15 (zq_cl x4)) x2)
        (zq_if (zq_eq x3 (nat_lit 0)) false
        (zq_if (zq_le (zq_sub (zq_div x1 x3) (zq_mul (zq_div (zq_div x1 x3) (nat_lit 6)) (nat_lit 6))) (nat_lit 0))
        (kp x1)
        (zq_fc (zq_sub x1 x3) (fun y1 => kp y1))))
        (zq_fc (zq_mul x3 (nat_lit 6)) (fun x3_6 => zq_fc (zq_add x4 (nat_lit 1)) (fun x4_7 => ih x3_6 x4_7)))) false) fu
theorem zr_X_gainOver_5 {post : Int32 → Prop} {kp : Nat → Bool} {x1 : Nat} {x2 : Nat} {A15 : Nat} {S0 : Int32} {S1 : Int32} {S2 : Int32} {A1 : Nat → Int32} {A2 : Nat → Int32} {A3 : Nat → Int32} {A4 : Nat → Int32} {A5 : Nat → Int32} {A6 : Nat → Int32} {A7 : Nat → Int32} {A8 : Nat → Int32} {A9 : Nat → Int32} {A10 : Nat → Int32} {A11 : Nat → Int32} {A12 : Nat → Int32} {A13 : Nat → Int32} {A14 : Nat → Int32} {A16 : Nat → Int32} {A17 : Nat → Int32} (hp : ∀ r : Nat, kp r = true → post (nI r)) (fu : Nat) : ∀ (x3 : Nat) (x4 : Nat) (e_x3 : Int32) (e_x4 : Int32), zb_X_gainOver_5 kp x1 x2 A15 fu x3 x4 = true → e_x3 = nI x3 → e_x4 = nI x4 → wX_gainOver_5 post (nI x1) (nI x2) S0 S1 S2 A1 A2 A3 A4 A5 A6 A7 A8 A9 A10 A11 A12 A13 A14 (zq_g A15) A16 A17 fu e_x3 e_x4 := by
  induction fu with
  | zero => intro x3 x4 e_x3 e_x4 h q_x3 q_x4; exact absurd h Bool.false_ne_true
  | succ n ih =>
    intro x3 x4 e_x3 e_x4 h q_x3 q_x4
    subst q_x3; subst q_x4; have h : (zq_if (zq_in x4 (nat_lit 4))
        (zq_if (zq_eq (zq_get A15 (zq_cl x4)) x2)
        (zq_if (zq_eq x3 (nat_lit 0)) false
        (zq_if (zq_le (zq_sub (zq_div x1 x3) (zq_mul (zq_div (zq_div x1 x3) (nat_lit 6)) (nat_lit 6))) (nat_lit 0))
        (kp x1)
        (zq_fc (zq_sub x1 x3) (fun y1 => kp y1))))
        (zq_fc (zq_mul x3 (nat_lit 6)) (fun x3_6 => zq_fc (zq_add x4 (nat_lit 1)) (fun x4_7 => (zb_X_gainOver_5 kp x1 x2 A15 n) x3_6 x4_7)))) false) = true := h
    exact zq_vi h rfl (by decide) (fun h => zq_br h (zq_ceq (zq_rd rfl) rfl)
        (fun h => zq_nz h rfl (fun h => And.intro (by decide) (zq_br h (zq_cle (zq_hsub (zq_hdiv rfl rfl) (zq_hmul (zq_hdiv (zq_hdiv rfl rfl) rfl) rfl)) rfl)
        (fun h => hp _ h)
        (fun h => have h := zq_fe h; Eq.mpr (congrArg post (zq_hsub rfl rfl)) (hp _ h)))))
        (fun h => zq_ly h (zq_hmul rfl rfl) (fun x3_6 h => zq_ly h (zq_hadd rfl rfl) (fun x4_7 h => ih _ _ _ _ h rfl rfl))))
theorem zs_X_gainOver_5 {post : Int32 → Prop} {kp : Nat → Bool} {x1 : Nat} {x2 : Nat} {A15 : Nat} {x3 : Nat} {x4 : Nat} {S0 : Int32} {S1 : Int32} {S2 : Int32} {A1 : Nat → Int32} {A2 : Nat → Int32} {A3 : Nat → Int32} {A4 : Nat → Int32} {A5 : Nat → Int32} {A6 : Nat → Int32} {A7 : Nat → Int32} {A8 : Nat → Int32} {A9 : Nat → Int32} {A10 : Nat → Int32} {A11 : Nat → Int32} {A12 : Nat → Int32} {A13 : Nat → Int32} {A14 : Nat → Int32} {A16 : Nat → Int32} {A17 : Nat → Int32} {e_x1 : Int32} {e_x2 : Int32} {e_x3 : Int32} {e_x4 : Int32} {fu : Nat} (h : zb_X_gainOver_5 kp x1 x2 A15 fu x3 x4 = true) (q_x1 : e_x1 = nI x1) (q_x2 : e_x2 = nI x2) (q_x3 : e_x3 = nI x3) (q_x4 : e_x4 = nI x4) (hp : ∀ r : Nat, kp r = true → post (nI r)) : wX_gainOver_5 post e_x1 e_x2 S0 S1 S2 A1 A2 A3 A4 A5 A6 A7 A8 A9 A10 A11 A12 A13 A14 (zq_g A15) A16 A17 fu e_x3 e_x4 := by
  subst q_x1; subst q_x2; exact zr_X_gainOver_5 hp fu _ _ _ _ h q_x3 q_x4
noncomputable def zb_X_gainOver (kp : Nat → Bool) (p0 : Nat) (p1 : Nat) (A15 : Nat) : Bool :=
        zb_X_gainOver_5 kp p0 p1 A15 40 (nat_lit 1) (nat_lit 0)
theorem zs_X_gainOver {post : Int32 → Prop} {kp : Nat → Bool} {p0 : Nat} {p1 : Nat} {A15 : Nat} {S0 : Int32} {S1 : Int32} {S2 : Int32} {A1 : Nat → Int32} {A2 : Nat → Int32} {A3 : Nat → Int32} {A4 : Nat → Int32} {A5 : Nat → Int32} {A6 : Nat → Int32} {A7 : Nat → Int32} {A8 : Nat → Int32} {A9 : Nat → Int32} {A10 : Nat → Int32} {A11 : Nat → Int32} {A12 : Nat → Int32} {A13 : Nat → Int32} {A14 : Nat → Int32} {A16 : Nat → Int32} {A17 : Nat → Int32} {e_p0 : Int32} {e_p1 : Int32} (h : zb_X_gainOver kp p0 p1 A15 = true) (q_p0 : e_p0 = nI p0) (q_p1 : e_p1 = nI p1) (hp : ∀ r : Nat, kp r = true → post (nI r)) : wpX_gainOver post (S0, S1, S2, A1, A2, A3, A4, A5, A6, A7, A8, A9, A10, A11, A12, A13, A14, (zq_g A15), A16, A17) e_p0 e_p1 := by
  subst q_p0; subst q_p1; have h : (zb_X_gainOver_5 kp p0 p1 A15 40 (nat_lit 1) (nat_lit 0)) = true := h
  exact Exists.intro 40 (zs_X_gainOver_5 h rfl rfl rfl rfl hp)
noncomputable def zb_X_moveUp_38 (kp : Nat → Bool) (kJ6 : Nat → Nat → Nat → Bool) (x1 : Nat) (x2 : Nat) (x3 : Nat) (x4 : Nat) (x5 : Nat) (A2 : Nat) (A15 : Nat) (A16 : Nat) (A17 : Nat) : Bool :=
        zq_if (zq_in x3 (nat_lit 1296))
        (zq_if (zq_in x4 (nat_lit 1296))
        (zq_if (zq_le (zq_get A17 (zq_cl x4)) (zq_add (zq_get A16 (zq_cl x3)) x5))
        (zq_fc (zq_add x5 (nat_lit 1)) (fun x5_6 => kJ6 x4 x5_6 A17))
        (zq_if (zq_in x3 (nat_lit 1296))
        (zq_if (zq_in x4 (nat_lit 1296))
        (zq_fc (zq_set A17 (zq_cl x4) (zq_i8 (zq_add (zq_get A16 (zq_cl x3)) x5))) (fun a17_9 => zq_fc (zq_add x5 (nat_lit 1)) (fun x5_10 => kJ6 x4 x5_10 a17_9))) false) false)) false) false
theorem zs_X_moveUp_38 {post : St2 → Prop} {J6 : Int32 → Int32 → (Nat → Int32) → (Nat → Int32) → (Nat → Int32) → (Nat → Int32) → (Nat → Int32) → (Nat → Int32) → (Nat → Int32) → (Nat → Int32) → (Nat → Int32) → (Nat → Int32) → (Nat → Int32) → (Nat → Int32) → (Nat → Int32) → (Nat → Int32) → (Nat → Int32) → (Nat → Int32) → (Nat → Int32) → Prop} {kp : Nat → Bool} {kJ6 : Nat → Nat → Nat → Bool} {x1 : Nat} {x2 : Nat} {x3 : Nat} {x4 : Nat} {x5 : Nat} {A2 : Nat} {A15 : Nat} {A16 : Nat} {A17 : Nat} {S0 : Int32} {S1 : Int32} {S2 : Int32} {A1 : Nat → Int32} {A3 : Nat → Int32} {A4 : Nat → Int32} {A5 : Nat → Int32} {A6 : Nat → Int32} {A7 : Nat → Int32} {A8 : Nat → Int32} {A9 : Nat → Int32} {A10 : Nat → Int32} {A11 : Nat → Int32} {A12 : Nat → Int32} {A13 : Nat → Int32} {A14 : Nat → Int32} {e_x1 : Int32} {e_x2 : Int32} {e_x3 : Int32} {e_x4 : Int32} {e_x5 : Int32} (h : zb_X_moveUp_38 kp kJ6 x1 x2 x3 x4 x5 A2 A15 A16 A17 = true) (q_x1 : e_x1 = nI x1) (q_x2 : e_x2 = nI x2) (q_x3 : e_x3 = nI x3) (q_x4 : e_x4 = nI x4) (q_x5 : e_x5 = nI x5) (hp : ∀ w19 : Nat, kp w19 = true → post (S0, S1, S2, A1, (zq_g A2), A3, A4, A5, A6, A7, A8, A9, A10, A11, A12, A13, A14, (zq_g A15), (zq_g A16), (zq_g w19))) (hJ6 : ∀ y_x4 y_x5 v19 : Nat, kJ6 y_x4 y_x5 v19 = true → J6 (nI y_x4) (nI y_x5) A1 (zq_g A2) A3 A4 A5 A6 A7 A8 A9 A10 A11 A12 A13 A14 (zq_g A15) (zq_g A16) (zq_g v19)) : wX_moveUp_38 post J6 e_x1 e_x2 e_x3 e_x4 e_x5 S0 S1 S2 A1 (zq_g A2) A3 A4 A5 A6 A7 A8 A9 A10 A11 A12 A13 A14 (zq_g A15) (zq_g A16) (zq_g A17) := by
  subst q_x1; subst q_x2; subst q_x3; subst q_x4; subst q_x5; have h : (zq_if (zq_in x3 (nat_lit 1296))
        (zq_if (zq_in x4 (nat_lit 1296))
        (zq_if (zq_le (zq_get A17 (zq_cl x4)) (zq_add (zq_get A16 (zq_cl x3)) x5))
        (zq_fc (zq_add x5 (nat_lit 1)) (fun x5_6 => kJ6 x4 x5_6 A17))
        (zq_if (zq_in x3 (nat_lit 1296))
        (zq_if (zq_in x4 (nat_lit 1296))
        (zq_fc (zq_set A17 (zq_cl x4) (zq_i8 (zq_add (zq_get A16 (zq_cl x3)) x5))) (fun a17_9 => zq_fc (zq_add x5 (nat_lit 1)) (fun x5_10 => kJ6 x4 x5_10 a17_9))) false) false)) false) false) = true := h
  exact zq_vi h rfl (by decide) (fun h => zq_vi h rfl (by decide) (fun h => zq_br h (zq_cle (zq_rd rfl) (zq_hadd (zq_rd rfl) rfl))
        (fun h => zq_ly h (zq_hadd rfl rfl) (fun x5_6 h => hJ6 _ _ _ h))
        (fun h => zq_vi h rfl (by decide) (fun h => zq_vi h rfl (by decide) (fun h => zq_up h rfl (zq_hi8 (zq_hadd (zq_rd rfl) rfl)) (fun a17_9 h => zq_ly h (zq_hadd rfl rfl) (fun x5_10 h => hJ6 _ _ _ h)))))))
noncomputable def zb_X_moveUp_6 (kp : Nat → Bool) (x1 : Nat) (x2 : Nat) (x3 : Nat) (A2 : Nat) (A15 : Nat) (A16 : Nat) : Nat → Nat → Nat → Nat → Bool := fun fu => @Nat.rec (fun _ => Nat → Nat → Nat → Bool) (fun _ _ _ => false) (fun _ ih => fun x4 x5 A17 =>
        zq_if (zq_lt x2 x5)
        (kp A17)
        (zq_if (zq_le x5 (nat_lit 0))
        (zb_X_moveUp_38 kp ih x1 x2 x3 x4 x5 A2 A15 A16 A17)
        (zq_if (zq_in (zq_sub (zq_add (zq_mul (nat_lit 5) x1) x2) x5) (nat_lit 45))
        (zq_fc (zq_get A2 (zq_cl (zq_sub (zq_add (zq_mul (nat_lit 5) x1) x2) x5))) (fun y1 => zb_X_gainOver (fun r_12 => zb_X_moveUp_38 kp ih x1 x2 x3 r_12 x5 A2 A15 A16 A17) x4 y1 A15)) false))) fu
theorem zr_X_moveUp_6 {post : St2 → Prop} {kp : Nat → Bool} {x1 : Nat} {x2 : Nat} {x3 : Nat} {A2 : Nat} {A15 : Nat} {A16 : Nat} {S0 : Int32} {S1 : Int32} {S2 : Int32} {A1 : Nat → Int32} {A3 : Nat → Int32} {A4 : Nat → Int32} {A5 : Nat → Int32} {A6 : Nat → Int32} {A7 : Nat → Int32} {A8 : Nat → Int32} {A9 : Nat → Int32} {A10 : Nat → Int32} {A11 : Nat → Int32} {A12 : Nat → Int32} {A13 : Nat → Int32} {A14 : Nat → Int32} (hp : ∀ w19 : Nat, kp w19 = true → post (S0, S1, S2, A1, (zq_g A2), A3, A4, A5, A6, A7, A8, A9, A10, A11, A12, A13, A14, (zq_g A15), (zq_g A16), (zq_g w19))) (fu : Nat) : ∀ (x4 : Nat) (x5 : Nat) (A17 : Nat) (e_x4 : Int32) (e_x5 : Int32), zb_X_moveUp_6 kp x1 x2 x3 A2 A15 A16 fu x4 x5 A17 = true → e_x4 = nI x4 → e_x5 = nI x5 → wX_moveUp_6 post (nI x1) (nI x2) (nI x3) S0 S1 S2 fu e_x4 e_x5 A1 (zq_g A2) A3 A4 A5 A6 A7 A8 A9 A10 A11 A12 A13 A14 (zq_g A15) (zq_g A16) (zq_g A17) := by
  induction fu with
  | zero => intro x4 x5 A17 e_x4 e_x5 h q_x4 q_x5; exact absurd h Bool.false_ne_true
  | succ n ih =>
    intro x4 x5 A17 e_x4 e_x5 h q_x4 q_x5
    subst q_x4; subst q_x5; have h : (zq_if (zq_lt x2 x5)
        (kp A17)
        (zq_if (zq_le x5 (nat_lit 0))
        (zb_X_moveUp_38 kp (zb_X_moveUp_6 kp x1 x2 x3 A2 A15 A16 n) x1 x2 x3 x4 x5 A2 A15 A16 A17)
        (zq_if (zq_in (zq_sub (zq_add (zq_mul (nat_lit 5) x1) x2) x5) (nat_lit 45))
        (zq_fc (zq_get A2 (zq_cl (zq_sub (zq_add (zq_mul (nat_lit 5) x1) x2) x5))) (fun y1 => zb_X_gainOver (fun r_12 => zb_X_moveUp_38 kp (zb_X_moveUp_6 kp x1 x2 x3 A2 A15 A16 n) x1 x2 x3 r_12 x5 A2 A15 A16 A17) x4 y1 A15)) false))) = true := h
    exact zq_br h (zq_clt rfl rfl)
        (fun h => hp _ h)
        (fun h => zq_br h (zq_cle rfl rfl)
        (fun h => zs_X_moveUp_38 h rfl rfl rfl rfl rfl hp (fun y0 y1 y2 h => ih y0 y1 y2 _ _ h rfl rfl))
        (fun h => zq_vi h (zq_hsub (zq_hadd (zq_hmul rfl rfl) rfl) rfl) (by decide) (fun h => have h := zq_fe h; zs_X_gainOver h rfl (zq_rd (zq_hsub (zq_hadd (zq_hmul rfl rfl) rfl) rfl)) (fun r_12 h => zs_X_moveUp_38 h rfl rfl rfl rfl rfl hp (fun y0 y1 y2 h => ih y0 y1 y2 _ _ h rfl rfl)))))
theorem zs_X_moveUp_6 {post : St2 → Prop} {kp : Nat → Bool} {x1 : Nat} {x2 : Nat} {x3 : Nat} {A2 : Nat} {A15 : Nat} {A16 : Nat} {x4 : Nat} {x5 : Nat} {A17 : Nat} {S0 : Int32} {S1 : Int32} {S2 : Int32} {A1 : Nat → Int32} {A3 : Nat → Int32} {A4 : Nat → Int32} {A5 : Nat → Int32} {A6 : Nat → Int32} {A7 : Nat → Int32} {A8 : Nat → Int32} {A9 : Nat → Int32} {A10 : Nat → Int32} {A11 : Nat → Int32} {A12 : Nat → Int32} {A13 : Nat → Int32} {A14 : Nat → Int32} {e_x1 : Int32} {e_x2 : Int32} {e_x3 : Int32} {e_x4 : Int32} {e_x5 : Int32} {fu : Nat} (h : zb_X_moveUp_6 kp x1 x2 x3 A2 A15 A16 fu x4 x5 A17 = true) (q_x1 : e_x1 = nI x1) (q_x2 : e_x2 = nI x2) (q_x3 : e_x3 = nI x3) (q_x4 : e_x4 = nI x4) (q_x5 : e_x5 = nI x5) (hp : ∀ w19 : Nat, kp w19 = true → post (S0, S1, S2, A1, (zq_g A2), A3, A4, A5, A6, A7, A8, A9, A10, A11, A12, A13, A14, (zq_g A15), (zq_g A16), (zq_g w19))) : wX_moveUp_6 post e_x1 e_x2 e_x3 S0 S1 S2 fu e_x4 e_x5 A1 (zq_g A2) A3 A4 A5 A6 A7 A8 A9 A10 A11 A12 A13 A14 (zq_g A15) (zq_g A16) (zq_g A17) := by
  subst q_x1; subst q_x2; subst q_x3; exact zr_X_moveUp_6 hp fu _ _ _ _ _ h q_x4 q_x5
noncomputable def zb_X_moveUp (kp : Nat → Bool) (p0 : Nat) (p1 : Nat) (p2 : Nat) (A2 : Nat) (A15 : Nat) (A16 : Nat) (A17 : Nat) : Bool :=
        zb_X_moveUp_6 kp p0 p1 p2 A2 A15 A16 40 p2 (nat_lit 0) A17
theorem zs_X_moveUp {post : St2 → Prop} {kp : Nat → Bool} {p0 : Nat} {p1 : Nat} {p2 : Nat} {A2 : Nat} {A15 : Nat} {A16 : Nat} {A17 : Nat} {S0 : Int32} {S1 : Int32} {S2 : Int32} {A1 : Nat → Int32} {A3 : Nat → Int32} {A4 : Nat → Int32} {A5 : Nat → Int32} {A6 : Nat → Int32} {A7 : Nat → Int32} {A8 : Nat → Int32} {A9 : Nat → Int32} {A10 : Nat → Int32} {A11 : Nat → Int32} {A12 : Nat → Int32} {A13 : Nat → Int32} {A14 : Nat → Int32} {e_p0 : Int32} {e_p1 : Int32} {e_p2 : Int32} (h : zb_X_moveUp kp p0 p1 p2 A2 A15 A16 A17 = true) (q_p0 : e_p0 = nI p0) (q_p1 : e_p1 = nI p1) (q_p2 : e_p2 = nI p2) (hp : ∀ w19 : Nat, kp w19 = true → post (S0, S1, S2, A1, (zq_g A2), A3, A4, A5, A6, A7, A8, A9, A10, A11, A12, A13, A14, (zq_g A15), (zq_g A16), (zq_g w19))) : wpX_moveUp post (S0, S1, S2, A1, (zq_g A2), A3, A4, A5, A6, A7, A8, A9, A10, A11, A12, A13, A14, (zq_g A15), (zq_g A16), (zq_g A17)) e_p0 e_p1 e_p2 := by
  subst q_p0; subst q_p1; subst q_p2; have h : (zb_X_moveUp_6 kp p0 p1 p2 A2 A15 A16 40 p2 (nat_lit 0) A17) = true := h
  exact Exists.intro 40 (zs_X_moveUp_6 h rfl rfl rfl rfl rfl hp)
end
section
/-! printed by gen.py: wX_useBallot_85 .. wpX_fewest -/
/-- 1296 cells copied: the packed number itself -/
noncomputable def zb_X_useBallot_85 (kp : Nat → Nat → Bool) (A2 A15 A16 A17 : Nat) : Bool :=
  zq_if (Nat.beq (Nat.shiftRight A16 (nat_lit 41472)) (nat_lit 0)) (zq_if (Nat.beq (Nat.shiftRight A17 (nat_lit 41472)) (nat_lit 0)) (zq_if (Nat.beq (Nat.land A17 zq_c127) A17) (kp A17 A17) false) false) false
theorem zs_X_useBallot_85 {post : St2 → Prop} {kp : Nat → Nat → Bool} {A2 : Nat} {A15 : Nat} {A16 : Nat} {A17 : Nat} {S0 : Int32} {S1 : Int32} {S2 : Int32} {A1 : Nat → Int32} {A3 : Nat → Int32} {A4 : Nat → Int32} {A5 : Nat → Int32} {A6 : Nat → Int32} {A7 : Nat → Int32} {A8 : Nat → Int32} {A9 : Nat → Int32} {A10 : Nat → Int32} {A11 : Nat → Int32} {A12 : Nat → Int32} {A13 : Nat → Int32} {A14 : Nat → Int32} (h : zb_X_useBallot_85 kp A2 A15 A16 A17 = true) (hp : ∀ w18 w19 : Nat, kp w18 w19 = true → post (S0, S1, S2, A1, (zq_g A2), A3, A4, A5, A6, A7, A8, A9, A10, A11, A12, A13, A14, (zq_g A15), (zq_g w18), (zq_g w19))) : ∃ fu : Nat, wX_useBallot_85 post S0 S1 S2 fu 0 A1 (zq_g A2) A3 A4 A5 A6 A7 A8 A9 A10 A11 A12 A13 A14 (zq_g A15) (zq_g A16) (zq_g A17) := by
  obtain ⟨h1, h⟩ := zq_ift h
  obtain ⟨h2, h⟩ := zq_ift h
  obtain ⟨h3, h⟩ := zq_ift h
  exact ⟨1296 + 1, zq_fill (N := 1296) (by decide) (W := fun n x a => wX_useBallot_85 post S0 S1 S2 n x A1 (zq_g A2) A3 A4 A5 A6 A7 A8 A9 A10 A11 A12 A13 A14 (zq_g A15) a (zq_g A17)) (E := fun a => post (S0, S1, S2, A1, (zq_g A2), A3, A4, A5, A6, A7, A8, A9, A10, A11, A12, A13, A14, (zq_g A15), a, (zq_g A17))) (val := fun x => vp_nar .byte (zq_g A17 x.toNatClampNeg))
    (fun n x a g => And.intro g.1 (fun c => And.intro (g.2 c).1 (And.intro (g.2 c).1 (g.2 c).2))) (zq_g A16) (zq_g A17) (fun j hj => zq_byt h3 hj) (fun j hj => (zq_hi h1 hj).trans (zq_hi h2 hj).symm) (hp _ _ h)⟩
/-- the scan: from one cell that isn't 100 to the next -/
noncomputable def zb_X_ub48 (kp : Nat → Nat → Bool) (x1 x3 A2 A15 A16 : Nat) : Nat → Nat → Nat → Bool := fun fu => @Nat.rec (fun _ => Nat → Nat → Bool) (fun _ _ => false) (fun _ ih => fun x4 A17 =>
  zq_fc (Nat.shiftRight (Nat.xor A16 zq_c100) (Nat.mul (nat_lit 32) x4)) (fun D =>
    zq_if (Nat.beq D (nat_lit 0)) (zb_X_useBallot_85 kp A2 A15 A16 A17)
      (zq_lo 11 D (nat_lit 0) (fun d =>
        zq_if (Nat.beq (Nat.mod D (Nat.shiftLeft (nat_lit 1) (Nat.mul (nat_lit 32) d))) (nat_lit 0))
          (zq_fc (Nat.add x4 d) (fun x => zq_if (Nat.ble (Nat.succ x) (nat_lit 1296))
            (zq_if (zq_le (nat_lit 100) (zq_get A16 (zq_cl x))) false (zb_X_moveUp (fun A => ih (Nat.succ x) A) x1 x3 x A2 A15 A16 A17)) false)) false)))) fu
noncomputable def zb_X_useBallot_48 (kp : Nat → Nat → Bool) (x1 x3 A2 A15 A16 A17 : Nat) : Bool := zb_X_ub48 kp x1 x3 A2 A15 A16 1300 (nat_lit 0) A17
theorem zq_sk48 {post : St2 → Prop} {x1 x3 : Int32} {A16 : Nat} {S0 : Int32} {S1 : Int32} {S2 : Int32} {A1 : Nat → Int32} {A2 : Nat → Int32} {A3 : Nat → Int32} {A4 : Nat → Int32} {A5 : Nat → Int32} {A6 : Nat → Int32} {A7 : Nat → Int32} {A8 : Nat → Int32} {A9 : Nat → Int32} {A10 : Nat → Int32} {A11 : Nat → Int32} {A12 : Nat → Int32} {A13 : Nat → Int32} {A14 : Nat → Int32} {A15 : Nat → Int32} {A17 : Nat → Int32} (d : Nat) : ∀ (x F : Nat), x + d ≤ 1296 → (∀ j, x ≤ j → j < x + d → zq_get A16 j = 100) → wX_useBallot_48 post x1 x3 F (nI (x + d)) S0 S1 S2 A1 A2 A3 A4 A5 A6 A7 A8 A9 A10 A11 A12 A13 A14 A15 (zq_g A16) A17 → wX_useBallot_48 post x1 x3 (F + d) (nI x) S0 S1 S2 A1 A2 A3 A4 A5 A6 A7 A8 A9 A10 A11 A12 A13 A14 A15 (zq_g A16) A17 := by
  induction d with
  | zero => intro x F _ _ hw; exact hw
  | succ d ih =>
    intro x F hx hj hw
    have hr := ih (x + 1) F (by omega) (fun j h1 h2 => hj j (by omega) (by omega)) (by rw [show x + 1 + d = x + (d + 1) by omega]; exact hw)
    have hc : zq_g A16 (nI x).toNatClampNeg = 100 := by
      rw [nI_clamp (by omega)]
      show nI (zq_get A16 x) = 100
      rw [hj x (by omega) (by omega)]
      rfl
    have h100 : (100 : Int32) ≤ zq_g A16 (nI x).toNatClampNeg := by rw [hc]; decide
    exact And.intro (fun c => absurd c (nI_ge (b := 1296) (by omega) (by decide))) (fun _ => And.intro (vp_in_nI (by omega) (by decide)) (br_t h100 (nm_r (nI_1 x) hr)))
theorem zr_X_ub48 {post : St2 → Prop} {kp : Nat → Nat → Bool} {x1 x3 : Nat} {A2 A15 A16 : Nat} {S0 : Int32} {S1 : Int32} {S2 : Int32} {A1 : Nat → Int32} {A3 : Nat → Int32} {A4 : Nat → Int32} {A5 : Nat → Int32} {A6 : Nat → Int32} {A7 : Nat → Int32} {A8 : Nat → Int32} {A9 : Nat → Int32} {A10 : Nat → Int32} {A11 : Nat → Int32} {A12 : Nat → Int32} {A13 : Nat → Int32} {A14 : Nat → Int32} (hp : ∀ w18 w19 : Nat, kp w18 w19 = true → post (S0, S1, S2, A1, (zq_g A2), A3, A4, A5, A6, A7, A8, A9, A10, A11, A12, A13, A14, (zq_g A15), (zq_g w18), (zq_g w19))) (fu : Nat) : ∀ (x4 A17 : Nat), x4 ≤ 1296 → zb_X_ub48 kp x1 x3 A2 A15 A16 fu x4 A17 = true → wX_useBallot_48 post (nI x1) (nI x3) (1297 - x4) (nI x4) S0 S1 S2 A1 (zq_g A2) A3 A4 A5 A6 A7 A8 A9 A10 A11 A12 A13 A14 (zq_g A15) (zq_g A16) (zq_g A17) := by
  induction fu with
  | zero => intro x4 A17 _ h; exact absurd h Bool.false_ne_true
  | succ n ih =>
    intro x4 A17 hx h
    have h : (zq_fc (Nat.shiftRight (Nat.xor A16 zq_c100) (Nat.mul (nat_lit 32) x4)) (fun D => zq_if (Nat.beq D (nat_lit 0)) (zb_X_useBallot_85 kp A2 A15 A16 A17) (zq_lo 11 D (nat_lit 0) (fun d => zq_if (Nat.beq (Nat.mod D (Nat.shiftLeft (nat_lit 1) (Nat.mul (nat_lit 32) d))) (nat_lit 0)) (zq_fc (Nat.add x4 d) (fun x => zq_if (Nat.ble (Nat.succ x) (nat_lit 1296)) (zq_if (zq_le (nat_lit 100) (zq_get A16 (zq_cl x))) false (zb_X_moveUp (fun A => zb_X_ub48 kp x1 x3 A2 A15 A16 n (Nat.succ x) A) x1 x3 x A2 A15 A16 A17)) false)) false)))) = true := h
    have h := zq_fe h
    by_cases hD : Nat.beq (Nat.shiftRight (Nat.xor A16 zq_c100) (Nat.mul (nat_lit 32) x4)) (nat_lit 0) = true
    · have h := zq_ifT h hD
      have e0 := Nat.eq_of_beq_eq_true hD
      have hw : wX_useBallot_48 post (nI x1) (nI x3) 1 (nI (x4 + (1296 - x4))) S0 S1 S2 A1 (zq_g A2) A3 A4 A5 A6 A7 A8 A9 A10 A11 A12 A13 A14 (zq_g A15) (zq_g A16) (zq_g A17) := by
        rw [show x4 + (1296 - x4) = 1296 by omega]
        exact br_t (nI_le (a := 1296) (b := 1296) (by omega) (by decide)) (zs_X_useBallot_85 h hp)
      have := zq_sk48 (1296 - x4) x4 1 (by omega) (fun j h1 h2 => zq_dz e0 h1 (by omega)) hw
      rw [show 1 + (1296 - x4) = 1297 - x4 by omega] at this
      exact this
    · have h := zq_ifF h hD
      obtain ⟨d, h⟩ := zq_los 11 _ _ h
      obtain ⟨h1, h⟩ := zq_ift h
      have h := zq_fe h
      obtain ⟨h2, h⟩ := zq_ift h
      obtain ⟨h3, h⟩ := zq_iff h
      have hlt : x4 + d < 1296 := Nat.le_of_ble_eq_true h2
      have e0 := Nat.eq_of_beq_eq_true h1
      have hcl : zq_cl (x4 + d) = x4 + d := by rw [← zq_clamp]; exact nI_clamp (by omega)
      have hn : ¬ (100 : Int32) ≤ zq_g A16 (nI (x4 + d)).toNatClampNeg := by
        intro z
        have := (zq_cle (x := 100) (y := zq_get A16 (zq_cl (x4 + d))) rfl (zq_rd rfl)).mpr z
        exact h3 this
      have hw : wX_useBallot_48 post (nI x1) (nI x3) (1297 - (x4 + d)) (nI (x4 + d)) S0 S1 S2 A1 (zq_g A2) A3 A4 A5 A6 A7 A8 A9 A10 A11 A12 A13 A14 (zq_g A15) (zq_g A16) (zq_g A17) := by
        rw [show 1297 - (x4 + d) = (1297 - (x4 + d + 1)) + 1 by omega]
        exact And.intro (fun c => absurd c (nI_ge (b := 1296) (by omega) (by decide))) (fun _ => And.intro (vp_in_nI (by omega) (by decide)) (br_f hn
          (zs_X_moveUp h rfl rfl rfl (fun A h => nm_r (nI_1 (x4 + d)) (ih (x4 + d + 1) A (by omega) h)))))
      have := zq_sk48 d x4 (1297 - (x4 + d)) (by omega) (fun j h1 h2 => zq_dm e0 h1 ⟨h2, by omega⟩) hw
      rw [show 1297 - (x4 + d) + d = 1297 - x4 by omega] at this
      exact this
theorem zs_X_useBallot_48 {post : St2 → Prop} {kp : Nat → Nat → Bool} {x1 x3 : Nat} {A2 : Nat} {A15 : Nat} {A16 : Nat} {A17 : Nat} {S0 : Int32} {S1 : Int32} {S2 : Int32} {A1 : Nat → Int32} {A3 : Nat → Int32} {A4 : Nat → Int32} {A5 : Nat → Int32} {A6 : Nat → Int32} {A7 : Nat → Int32} {A8 : Nat → Int32} {A9 : Nat → Int32} {A10 : Nat → Int32} {A11 : Nat → Int32} {A12 : Nat → Int32} {A13 : Nat → Int32} {A14 : Nat → Int32} {e_x1 e_x3 : Int32} (h : zb_X_useBallot_48 kp x1 x3 A2 A15 A16 A17 = true) (q_x1 : e_x1 = nI x1) (q_x3 : e_x3 = nI x3) (hp : ∀ w18 w19 : Nat, kp w18 w19 = true → post (S0, S1, S2, A1, (zq_g A2), A3, A4, A5, A6, A7, A8, A9, A10, A11, A12, A13, A14, (zq_g A15), (zq_g w18), (zq_g w19))) : ∃ fu : Nat, wX_useBallot_48 post e_x1 e_x3 fu 0 S0 S1 S2 A1 (zq_g A2) A3 A4 A5 A6 A7 A8 A9 A10 A11 A12 A13 A14 (zq_g A15) (zq_g A16) (zq_g A17) := by
  subst q_x1; subst q_x3
  exact ⟨1297, zr_X_ub48 hp 1300 0 A17 (by omega) h⟩
noncomputable def zb_X_useBallot_25 (kp : Nat → Nat → Bool) (x1 : Nat) (x2 : Nat) (A2 : Nat) (A15 : Nat) (A16 : Nat) (A17 : Nat) : Nat → Nat → Bool := fun fu => @Nat.rec (fun _ => Nat → Bool) (fun _ => false) (fun _ ih => fun x3 =>
        zq_if (zq_in (zq_add (zq_mul (nat_lit 5) x1) x3) (nat_lit 45))
        (zq_if (zq_eq (zq_get A2 (zq_cl (zq_add (zq_mul (nat_lit 5) x1) x3))) x2)
        (zb_X_useBallot_48 kp x1 x3 A2 A15 A16 A17)
        (zq_fc (zq_add x3 (nat_lit 1)) (fun x3_69 => ih x3_69))) false) fu
theorem zr_X_useBallot_25 {post : St2 → Prop} {kp : Nat → Nat → Bool} {x1 : Nat} {x2 : Nat} {A2 : Nat} {A15 : Nat} {A16 : Nat} {A17 : Nat} {S0 : Int32} {S1 : Int32} {S2 : Int32} {A1 : Nat → Int32} {A3 : Nat → Int32} {A4 : Nat → Int32} {A5 : Nat → Int32} {A6 : Nat → Int32} {A7 : Nat → Int32} {A8 : Nat → Int32} {A9 : Nat → Int32} {A10 : Nat → Int32} {A11 : Nat → Int32} {A12 : Nat → Int32} {A13 : Nat → Int32} {A14 : Nat → Int32} (hp : ∀ w18 w19 : Nat, kp w18 w19 = true → post (S0, S1, S2, A1, (zq_g A2), A3, A4, A5, A6, A7, A8, A9, A10, A11, A12, A13, A14, (zq_g A15), (zq_g w18), (zq_g w19))) (fu : Nat) : ∀ (x3 : Nat) (e_x3 : Int32), zb_X_useBallot_25 kp x1 x2 A2 A15 A16 A17 fu x3 = true → e_x3 = nI x3 → wX_useBallot_25 post (nI x1) (nI x2) S0 S1 S2 A1 (zq_g A2) A3 A4 A5 A6 A7 A8 A9 A10 A11 A12 A13 A14 (zq_g A15) (zq_g A16) (zq_g A17) fu e_x3 := by
  induction fu with
  | zero => intro x3 e_x3 h q_x3; exact absurd h Bool.false_ne_true
  | succ n ih =>
    intro x3 e_x3 h q_x3
    subst q_x3; have h : (zq_if (zq_in (zq_add (zq_mul (nat_lit 5) x1) x3) (nat_lit 45))
        (zq_if (zq_eq (zq_get A2 (zq_cl (zq_add (zq_mul (nat_lit 5) x1) x3))) x2)
        (zb_X_useBallot_48 kp x1 x3 A2 A15 A16 A17)
        (zq_fc (zq_add x3 (nat_lit 1)) (fun x3_69 => (zb_X_useBallot_25 kp x1 x2 A2 A15 A16 A17 n) x3_69))) false) = true := h
    exact zq_vi h (zq_hadd (zq_hmul rfl rfl) rfl) (by decide) (fun h => zq_br h (zq_ceq (zq_rd (zq_hadd (zq_hmul rfl rfl) rfl)) rfl)
        (fun h => zs_X_useBallot_48 h rfl rfl hp)
        (fun h => zq_ly h (zq_hadd rfl rfl) (fun x3_69 h => ih _ _ h rfl)))
theorem zs_X_useBallot_25 {post : St2 → Prop} {kp : Nat → Nat → Bool} {x1 : Nat} {x2 : Nat} {A2 : Nat} {A15 : Nat} {A16 : Nat} {A17 : Nat} {x3 : Nat} {S0 : Int32} {S1 : Int32} {S2 : Int32} {A1 : Nat → Int32} {A3 : Nat → Int32} {A4 : Nat → Int32} {A5 : Nat → Int32} {A6 : Nat → Int32} {A7 : Nat → Int32} {A8 : Nat → Int32} {A9 : Nat → Int32} {A10 : Nat → Int32} {A11 : Nat → Int32} {A12 : Nat → Int32} {A13 : Nat → Int32} {A14 : Nat → Int32} {e_x1 : Int32} {e_x2 : Int32} {e_x3 : Int32} {fu : Nat} (h : zb_X_useBallot_25 kp x1 x2 A2 A15 A16 A17 fu x3 = true) (q_x1 : e_x1 = nI x1) (q_x2 : e_x2 = nI x2) (q_x3 : e_x3 = nI x3) (hp : ∀ w18 w19 : Nat, kp w18 w19 = true → post (S0, S1, S2, A1, (zq_g A2), A3, A4, A5, A6, A7, A8, A9, A10, A11, A12, A13, A14, (zq_g A15), (zq_g w18), (zq_g w19))) : wX_useBallot_25 post e_x1 e_x2 S0 S1 S2 A1 (zq_g A2) A3 A4 A5 A6 A7 A8 A9 A10 A11 A12 A13 A14 (zq_g A15) (zq_g A16) (zq_g A17) fu e_x3 := by
  subst q_x1; subst q_x2; exact zr_X_useBallot_25 hp fu _ _ h q_x3
/-- 1296 cells filled with 100 -/
noncomputable def zb_X_useBallot_2 (kp : Nat → Nat → Bool) (x1 x2 A2 A15 A16 A17 : Nat) : Bool :=
  zq_if (Nat.beq (Nat.shiftRight A17 (nat_lit 41472)) (nat_lit 0)) (zq_fc zq_c100 (fun B => zb_X_useBallot_25 kp x1 x2 A2 A15 A16 B 40 (nat_lit 0))) false
theorem zs_X_useBallot_2 {post : St2 → Prop} {kp : Nat → Nat → Bool} {x1 x2 : Nat} {A2 : Nat} {A15 : Nat} {A16 : Nat} {A17 : Nat} {S0 : Int32} {S1 : Int32} {S2 : Int32} {A1 : Nat → Int32} {A3 : Nat → Int32} {A4 : Nat → Int32} {A5 : Nat → Int32} {A6 : Nat → Int32} {A7 : Nat → Int32} {A8 : Nat → Int32} {A9 : Nat → Int32} {A10 : Nat → Int32} {A11 : Nat → Int32} {A12 : Nat → Int32} {A13 : Nat → Int32} {A14 : Nat → Int32} {e_x1 e_x2 : Int32} (h : zb_X_useBallot_2 kp x1 x2 A2 A15 A16 A17 = true) (q_x1 : e_x1 = nI x1) (q_x2 : e_x2 = nI x2) (hp : ∀ w18 w19 : Nat, kp w18 w19 = true → post (S0, S1, S2, A1, (zq_g A2), A3, A4, A5, A6, A7, A8, A9, A10, A11, A12, A13, A14, (zq_g A15), (zq_g w18), (zq_g w19))) : ∃ fu : Nat, wX_useBallot_2 post e_x1 e_x2 S0 S1 S2 fu 0 A1 (zq_g A2) A3 A4 A5 A6 A7 A8 A9 A10 A11 A12 A13 A14 (zq_g A15) (zq_g A16) (zq_g A17) := by
  subst q_x1; subst q_x2
  obtain ⟨h1, h⟩ := zq_ift h
  have h := zq_fe h
  exact ⟨1296 + 1, zq_fill (N := 1296) (by decide) (W := fun n x a => wX_useBallot_2 post (nI x1) (nI x2) S0 S1 S2 n x A1 (zq_g A2) A3 A4 A5 A6 A7 A8 A9 A10 A11 A12 A13 A14 (zq_g A15) (zq_g A16) a) (E := fun a => ∃ fu25 : Nat, wX_useBallot_25 post (nI x1) (nI x2) S0 S1 S2 A1 (zq_g A2) A3 A4 A5 A6 A7 A8 A9 A10 A11 A12 A13 A14 (zq_g A15) (zq_g A16) a fu25 0) (val := fun _ => 100)
    (fun n x a g => And.intro g.1 (fun c => And.intro (g.2 c).1 (g.2 c).2)) (zq_g A17) (zq_g zq_c100) (fun j hj => zq_k100 hj) (fun j hj => (zq_hi h1 hj).trans (zq_hi zq_t100 hj).symm) (Exists.intro 40 (zs_X_useBallot_25 h rfl rfl rfl hp))⟩
noncomputable def zb_X_useBallot (kp : Nat → Nat → Bool) (p0 : Nat) (p1 : Nat) (A2 : Nat) (A15 : Nat) (A16 : Nat) (A17 : Nat) : Bool :=
        zb_X_useBallot_2 kp p0 p1 A2 A15 A16 A17
theorem zs_X_useBallot {post : St2 → Prop} {kp : Nat → Nat → Bool} {p0 : Nat} {p1 : Nat} {A2 : Nat} {A15 : Nat} {A16 : Nat} {A17 : Nat} {S0 : Int32} {S1 : Int32} {S2 : Int32} {A1 : Nat → Int32} {A3 : Nat → Int32} {A4 : Nat → Int32} {A5 : Nat → Int32} {A6 : Nat → Int32} {A7 : Nat → Int32} {A8 : Nat → Int32} {A9 : Nat → Int32} {A10 : Nat → Int32} {A11 : Nat → Int32} {A12 : Nat → Int32} {A13 : Nat → Int32} {A14 : Nat → Int32} {e_p0 : Int32} {e_p1 : Int32} (h : zb_X_useBallot kp p0 p1 A2 A15 A16 A17 = true) (q_p0 : e_p0 = nI p0) (q_p1 : e_p1 = nI p1) (hp : ∀ w18 w19 : Nat, kp w18 w19 = true → post (S0, S1, S2, A1, (zq_g A2), A3, A4, A5, A6, A7, A8, A9, A10, A11, A12, A13, A14, (zq_g A15), (zq_g w18), (zq_g w19))) : wpX_useBallot post (S0, S1, S2, A1, (zq_g A2), A3, A4, A5, A6, A7, A8, A9, A10, A11, A12, A13, A14, (zq_g A15), (zq_g A16), (zq_g A17)) e_p0 e_p1 := by
  subst q_p0; subst q_p1; have h : (zb_X_useBallot_2 kp p0 p1 A2 A15 A16 A17) = true := h
  exact zs_X_useBallot_2 h rfl rfl hp
noncomputable def zb_X_swapsOf_49 (kp : Nat → Nat → Nat → Nat → Nat → Bool) (x1 : Nat) (S0 : Nat) (A2 : Nat) (A4 : Nat) : Nat → Nat → Nat → Nat → Nat → Nat → Bool := fun fu => @Nat.rec (fun _ => Nat → Nat → Nat → Nat → Nat → Bool) (fun _ _ _ _ _ => false) (fun _ ih => fun x3 A14 A15 A16 A17 =>
        zq_if (zq_le S0 x3)
        (zq_if (zq_eq (zq_get A16 (nat_lit 0)) (nat_lit 100))
        (kp (nat_lit 4294966294) A14 A15 A16 A17)
        (zq_fc (zq_get A16 (nat_lit 0)) (fun y1 => kp y1 A14 A15 A16 A17)))
        (zb_X_useBallot (fun am6016_113 am6017_116 => zq_fc (zq_add x3 (nat_lit 1)) (fun x3_117 => ih x3_117 A14 A15 am6016_113 am6017_116)) x3 x1 A2 A15 A16 A17)) fu
theorem zr_X_swapsOf_49 {post : Int32 → St2 → Prop} {kp : Nat → Nat → Nat → Nat → Nat → Bool} {x1 : Nat} {S0 : Nat} {A2 : Nat} {A4 : Nat} {S1 : Int32} {S2 : Int32} {A1 : Nat → Int32} {A3 : Nat → Int32} {A5 : Nat → Int32} {A6 : Nat → Int32} {A7 : Nat → Int32} {A8 : Nat → Int32} {A9 : Nat → Int32} {A10 : Nat → Int32} {A11 : Nat → Int32} {A12 : Nat → Int32} {A13 : Nat → Int32} (hp : ∀ r w16 w17 w18 w19 : Nat, kp r w16 w17 w18 w19 = true → post (nI r) ((nI S0), S1, S2, A1, (zq_g A2), A3, (zq_g A4), A5, A6, A7, A8, A9, A10, A11, A12, A13, (zq_g w16), (zq_g w17), (zq_g w18), (zq_g w19))) (fu : Nat) : ∀ (x3 : Nat) (A14 : Nat) (A15 : Nat) (A16 : Nat) (A17 : Nat) (e_x3 : Int32), zb_X_swapsOf_49 kp x1 S0 A2 A4 fu x3 A14 A15 A16 A17 = true → e_x3 = nI x3 → wX_swapsOf_49 post (nI x1) fu e_x3 (nI S0) S1 S2 A1 (zq_g A2) A3 (zq_g A4) A5 A6 A7 A8 A9 A10 A11 A12 A13 (zq_g A14) (zq_g A15) (zq_g A16) (zq_g A17) := by
  induction fu with
  | zero => intro x3 A14 A15 A16 A17 e_x3 h q_x3; exact absurd h Bool.false_ne_true
  | succ n ih =>
    intro x3 A14 A15 A16 A17 e_x3 h q_x3
    subst q_x3; have h : (zq_if (zq_le S0 x3)
        (zq_if (zq_eq (zq_get A16 (nat_lit 0)) (nat_lit 100))
        (kp (nat_lit 4294966294) A14 A15 A16 A17)
        (zq_fc (zq_get A16 (nat_lit 0)) (fun y1 => kp y1 A14 A15 A16 A17)))
        (zb_X_useBallot (fun am6016_113 am6017_116 => zq_fc (zq_add x3 (nat_lit 1)) (fun x3_117 => (zb_X_swapsOf_49 kp x1 S0 A2 A4 n) x3_117 A14 A15 am6016_113 am6017_116)) x3 x1 A2 A15 A16 A17)) = true := h
    exact zq_br h (zq_cle rfl rfl)
        (fun h => zq_br h (zq_ceq rfl rfl)
        (fun h => Eq.mpr (congrFun (congrArg post zq_m1002) _) (hp _ _ _ _ _ h))
        (fun h => have h := zq_fe h; Eq.mpr (congrFun (congrArg post rfl) _) (hp _ _ _ _ _ h)))
        (fun h => zs_X_useBallot h rfl rfl (fun am6016_113 am6017_116 h => zq_ly h (zq_hadd rfl rfl) (fun x3_117 h => ih _ _ _ _ _ _ h rfl)))
theorem zs_X_swapsOf_49 {post : Int32 → St2 → Prop} {kp : Nat → Nat → Nat → Nat → Nat → Bool} {x1 : Nat} {S0 : Nat} {A2 : Nat} {A4 : Nat} {x3 : Nat} {A14 : Nat} {A15 : Nat} {A16 : Nat} {A17 : Nat} {S1 : Int32} {S2 : Int32} {A1 : Nat → Int32} {A3 : Nat → Int32} {A5 : Nat → Int32} {A6 : Nat → Int32} {A7 : Nat → Int32} {A8 : Nat → Int32} {A9 : Nat → Int32} {A10 : Nat → Int32} {A11 : Nat → Int32} {A12 : Nat → Int32} {A13 : Nat → Int32} {e_x1 : Int32} {e_x3 : Int32} {fu : Nat} (h : zb_X_swapsOf_49 kp x1 S0 A2 A4 fu x3 A14 A15 A16 A17 = true) (q_x1 : e_x1 = nI x1) (q_x3 : e_x3 = nI x3) (hp : ∀ r w16 w17 w18 w19 : Nat, kp r w16 w17 w18 w19 = true → post (nI r) ((nI S0), S1, S2, A1, (zq_g A2), A3, (zq_g A4), A5, A6, A7, A8, A9, A10, A11, A12, A13, (zq_g w16), (zq_g w17), (zq_g w18), (zq_g w19))) : wX_swapsOf_49 post e_x1 fu e_x3 (nI S0) S1 S2 A1 (zq_g A2) A3 (zq_g A4) A5 A6 A7 A8 A9 A10 A11 A12 A13 (zq_g A14) (zq_g A15) (zq_g A16) (zq_g A17) := by
  subst q_x1; exact zr_X_swapsOf_49 hp fu _ _ _ _ _ _ h q_x3
/-- 1296 cells filled with 100 -/
noncomputable def zb_X_swapsOf_19 (kp : Nat → Nat → Nat → Nat → Nat → Bool) (x1 x2 S0 A2 A4 A14 A15 A16 A17 : Nat) : Bool :=
  zq_if (Nat.beq (Nat.shiftRight A16 (nat_lit 41472)) (nat_lit 0)) (zq_if (zq_in x2 (nat_lit 1296)) (zq_fc (zq_set zq_c100 (zq_cl x2) (nat_lit 0)) (fun B => zb_X_swapsOf_49 kp x1 S0 A2 A4 40 (nat_lit 0) A14 A15 B A17)) false) false
theorem zs_X_swapsOf_19 {post : Int32 → St2 → Prop} {kp : Nat → Nat → Nat → Nat → Nat → Bool} {x1 x2 : Nat} {S0 : Nat} {A2 : Nat} {A4 : Nat} {A14 : Nat} {A15 : Nat} {A16 : Nat} {A17 : Nat} {S1 : Int32} {S2 : Int32} {A1 : Nat → Int32} {A3 : Nat → Int32} {A5 : Nat → Int32} {A6 : Nat → Int32} {A7 : Nat → Int32} {A8 : Nat → Int32} {A9 : Nat → Int32} {A10 : Nat → Int32} {A11 : Nat → Int32} {A12 : Nat → Int32} {A13 : Nat → Int32} {e_x1 e_x2 : Int32} (h : zb_X_swapsOf_19 kp x1 x2 S0 A2 A4 A14 A15 A16 A17 = true) (q_x1 : e_x1 = nI x1) (q_x2 : e_x2 = nI x2) (hp : ∀ r w16 w17 w18 w19 : Nat, kp r w16 w17 w18 w19 = true → post (nI r) ((nI S0), S1, S2, A1, (zq_g A2), A3, (zq_g A4), A5, A6, A7, A8, A9, A10, A11, A12, A13, (zq_g w16), (zq_g w17), (zq_g w18), (zq_g w19))) : ∃ fu : Nat, wX_swapsOf_19 post e_x1 e_x2 (nI S0) S1 S2 fu 0 A1 (zq_g A2) A3 (zq_g A4) A5 A6 A7 A8 A9 A10 A11 A12 A13 (zq_g A14) (zq_g A15) (zq_g A16) (zq_g A17) := by
  subst q_x1; subst q_x2
  obtain ⟨h1, h⟩ := zq_ift h
  exact ⟨1296 + 1, zq_fill (N := 1296) (by decide) (W := fun n x a => wX_swapsOf_19 post (nI x1) (nI x2) (nI S0) S1 S2 n x A1 (zq_g A2) A3 (zq_g A4) A5 A6 A7 A8 A9 A10 A11 A12 A13 (zq_g A14) (zq_g A15) a (zq_g A17)) (E := fun a => vp_in (nI x2) 1296 ∧ ∀ b : Nat → Int32, b = upd a (nI x2).toNatClampNeg 0 → ∃ fu49 : Nat, wX_swapsOf_49 post (nI x1) fu49 0 (nI S0) S1 S2 A1 (zq_g A2) A3 (zq_g A4) A5 A6 A7 A8 A9 A10 A11 A12 A13 (zq_g A14) (zq_g A15) b (zq_g A17)) (val := fun _ => 100)
    (fun n x a g => And.intro g.1 (fun c => And.intro (g.2 c).1 (g.2 c).2)) (zq_g A16) (zq_g zq_c100) (fun j hj => zq_k100 hj) (fun j hj => (zq_hi h1 hj).trans (zq_hi zq_t100 hj).symm)
    (zq_vi h rfl (by decide) (fun h => zq_up h rfl rfl (fun B h => Exists.intro 40 (zs_X_swapsOf_49 h rfl rfl hp))))⟩
noncomputable def zb_X_swapsOf (kp : Nat → Nat → Nat → Nat → Nat → Bool) (p0 : Nat) (S0 : Nat) (A2 : Nat) (A4 : Nat) (A14 : Nat) (A15 : Nat) (A16 : Nat) (A17 : Nat) : Bool :=
        zq_if (zq_eq S0 (nat_lit 0))
        (kp (nat_lit 4294966294) A14 A15 A16 A17)
        (zb_X_findLacking (fun r_2 am1314_47 am1315_50 => zb_X_swapsOf_19 kp p0 r_2 S0 A2 A4 am1314_47 am1315_50 A16 A17) p0 A4 A14 A15)
theorem zs_X_swapsOf {post : Int32 → St2 → Prop} {kp : Nat → Nat → Nat → Nat → Nat → Bool} {p0 : Nat} {S0 : Nat} {A2 : Nat} {A4 : Nat} {A14 : Nat} {A15 : Nat} {A16 : Nat} {A17 : Nat} {S1 : Int32} {S2 : Int32} {A1 : Nat → Int32} {A3 : Nat → Int32} {A5 : Nat → Int32} {A6 : Nat → Int32} {A7 : Nat → Int32} {A8 : Nat → Int32} {A9 : Nat → Int32} {A10 : Nat → Int32} {A11 : Nat → Int32} {A12 : Nat → Int32} {A13 : Nat → Int32} {e_p0 : Int32} (h : zb_X_swapsOf kp p0 S0 A2 A4 A14 A15 A16 A17 = true) (q_p0 : e_p0 = nI p0) (hp : ∀ r w16 w17 w18 w19 : Nat, kp r w16 w17 w18 w19 = true → post (nI r) ((nI S0), S1, S2, A1, (zq_g A2), A3, (zq_g A4), A5, A6, A7, A8, A9, A10, A11, A12, A13, (zq_g w16), (zq_g w17), (zq_g w18), (zq_g w19))) : wpX_swapsOf post ((nI S0), S1, S2, A1, (zq_g A2), A3, (zq_g A4), A5, A6, A7, A8, A9, A10, A11, A12, A13, (zq_g A14), (zq_g A15), (zq_g A16), (zq_g A17)) e_p0 := by
  subst q_p0; have h : (zq_if (zq_eq S0 (nat_lit 0))
        (kp (nat_lit 4294966294) A14 A15 A16 A17)
        (zb_X_findLacking (fun r_2 am1314_47 am1315_50 => zb_X_swapsOf_19 kp p0 r_2 S0 A2 A4 am1314_47 am1315_50 A16 A17) p0 A4 A14 A15)) = true := h
  exact zq_br h (zq_ceq rfl rfl)
        (fun h => Eq.mpr (congrFun (congrArg post zq_m1002) _) (hp _ _ _ _ _ h))
        (fun h => zs_X_findLacking h rfl (fun r_2 am1314_47 am1315_50 h => zs_X_swapsOf_19 h rfl rfl hp))
noncomputable def zb_X_fewest_54 (kp : Nat → Nat → Nat → Nat → Nat → Bool) (kJ9 : Nat → Nat → Nat → Nat → Nat → Nat → Nat → Bool) (x1 : Nat) (x2 : Nat) (x3 : Nat) (x4 : Nat) (x5 : Nat) (S0 : Nat) (A2 : Nat) (A3 : Nat) (A4 : Nat) (A14 : Nat) (A15 : Nat) (A16 : Nat) (A17 : Nat) : Bool :=
        zq_if (zq_lt x3 x5)
        (zq_fc (zq_add x4 (nat_lit 1)) (fun x4_8 => kJ9 x2 x3 x4_8 A14 A15 A16 A17))
        (zq_fc (zq_or x2 (zq_shl (nat_lit 1) x4)) (fun x2_9 => zq_fc (zq_add x4 (nat_lit 1)) (fun x4_10 => kJ9 x2_9 x5 x4_10 A14 A15 A16 A17)))
theorem zs_X_fewest_54 {post : Int32 → St2 → Prop} {J9 : Int32 → Int32 → Int32 → Int32 → Int32 → Int32 → (Nat → Int32) → (Nat → Int32) → (Nat → Int32) → (Nat → Int32) → (Nat → Int32) → (Nat → Int32) → (Nat → Int32) → (Nat → Int32) → (Nat → Int32) → (Nat → Int32) → (Nat → Int32) → (Nat → Int32) → (Nat → Int32) → (Nat → Int32) → (Nat → Int32) → (Nat → Int32) → (Nat → Int32) → Prop} {kp : Nat → Nat → Nat → Nat → Nat → Bool} {kJ9 : Nat → Nat → Nat → Nat → Nat → Nat → Nat → Bool} {x1 : Nat} {x2 : Nat} {x3 : Nat} {x4 : Nat} {x5 : Nat} {S0 : Nat} {A2 : Nat} {A3 : Nat} {A4 : Nat} {A14 : Nat} {A15 : Nat} {A16 : Nat} {A17 : Nat} {S1 : Int32} {S2 : Int32} {A1 : Nat → Int32} {A5 : Nat → Int32} {A6 : Nat → Int32} {A7 : Nat → Int32} {A8 : Nat → Int32} {A9 : Nat → Int32} {A10 : Nat → Int32} {A11 : Nat → Int32} {A12 : Nat → Int32} {A13 : Nat → Int32} {e_x1 : Int32} {e_x2 : Int32} {e_x3 : Int32} {e_x4 : Int32} {e_x5 : Int32} (h : zb_X_fewest_54 kp kJ9 x1 x2 x3 x4 x5 S0 A2 A3 A4 A14 A15 A16 A17 = true) (q_x1 : e_x1 = nI x1) (q_x2 : e_x2 = nI x2) (q_x3 : e_x3 = nI x3) (q_x4 : e_x4 = nI x4) (q_x5 : e_x5 = nI x5) (hp : ∀ r w16 w17 w18 w19 : Nat, kp r w16 w17 w18 w19 = true → post (nI r) ((nI S0), S1, S2, A1, (zq_g A2), (zq_g A3), (zq_g A4), A5, A6, A7, A8, A9, A10, A11, A12, A13, (zq_g w16), (zq_g w17), (zq_g w18), (zq_g w19))) (hJ9 : ∀ y_x2 y_x3 y_x4 v16 v17 v18 v19 : Nat, kJ9 y_x2 y_x3 y_x4 v16 v17 v18 v19 = true → J9 (nI y_x2) (nI y_x3) (nI y_x4) (nI S0) S1 S2 A1 (zq_g A2) (zq_g A3) (zq_g A4) A5 A6 A7 A8 A9 A10 A11 A12 A13 (zq_g v16) (zq_g v17) (zq_g v18) (zq_g v19)) : wX_fewest_54 post J9 e_x1 e_x2 e_x3 e_x4 e_x5 (nI S0) S1 S2 A1 (zq_g A2) (zq_g A3) (zq_g A4) A5 A6 A7 A8 A9 A10 A11 A12 A13 (zq_g A14) (zq_g A15) (zq_g A16) (zq_g A17) := by
  subst q_x1; subst q_x2; subst q_x3; subst q_x4; subst q_x5; have h : (zq_if (zq_lt x3 x5)
        (zq_fc (zq_add x4 (nat_lit 1)) (fun x4_8 => kJ9 x2 x3 x4_8 A14 A15 A16 A17))
        (zq_fc (zq_or x2 (zq_shl (nat_lit 1) x4)) (fun x2_9 => zq_fc (zq_add x4 (nat_lit 1)) (fun x4_10 => kJ9 x2_9 x5 x4_10 A14 A15 A16 A17)))) = true := h
  exact zq_br h (zq_clt rfl rfl)
        (fun h => zq_ly h (zq_hadd rfl rfl) (fun x4_8 h => hJ9 _ _ _ _ _ _ _ h))
        (fun h => zq_ly h (zq_hor rfl (zq_hshl rfl rfl)) (fun x2_9 h => zq_ly h (zq_hadd rfl rfl) (fun x4_10 h => hJ9 _ _ _ _ _ _ _ h)))
noncomputable def zb_X_fewest_36 (kp : Nat → Nat → Nat → Nat → Nat → Bool) (kJ9 : Nat → Nat → Nat → Nat → Nat → Nat → Nat → Bool) (x1 : Nat) (x2 : Nat) (x3 : Nat) (x4 : Nat) (z0 : Nat) (S0 : Nat) (A2 : Nat) (A3 : Nat) (A4 : Nat) (A14 : Nat) (A15 : Nat) (A16 : Nat) (A17 : Nat) : Bool :=
        zq_if (zq_le (nat_lit 0) z0)
        (zq_if (zq_le x3 z0)
        (zb_X_fewest_54 kp kJ9 x1 x2 x3 x4 z0 S0 A2 A3 A4 A14 A15 A16 A17)
        (zb_X_fewest_54 kp kJ9 x1 (nat_lit 0) x3 x4 z0 S0 A2 A3 A4 A14 A15 A16 A17))
        (zq_fc (zq_add x4 (nat_lit 1)) (fun x4_11 => kJ9 x2 x3 x4_11 A14 A15 A16 A17))
theorem zs_X_fewest_36 {post : Int32 → St2 → Prop} {J9 : Int32 → Int32 → Int32 → Int32 → Int32 → Int32 → (Nat → Int32) → (Nat → Int32) → (Nat → Int32) → (Nat → Int32) → (Nat → Int32) → (Nat → Int32) → (Nat → Int32) → (Nat → Int32) → (Nat → Int32) → (Nat → Int32) → (Nat → Int32) → (Nat → Int32) → (Nat → Int32) → (Nat → Int32) → (Nat → Int32) → (Nat → Int32) → (Nat → Int32) → Prop} {kp : Nat → Nat → Nat → Nat → Nat → Bool} {kJ9 : Nat → Nat → Nat → Nat → Nat → Nat → Nat → Bool} {x1 : Nat} {x2 : Nat} {x3 : Nat} {x4 : Nat} {z0 : Nat} {S0 : Nat} {A2 : Nat} {A3 : Nat} {A4 : Nat} {A14 : Nat} {A15 : Nat} {A16 : Nat} {A17 : Nat} {S1 : Int32} {S2 : Int32} {A1 : Nat → Int32} {A5 : Nat → Int32} {A6 : Nat → Int32} {A7 : Nat → Int32} {A8 : Nat → Int32} {A9 : Nat → Int32} {A10 : Nat → Int32} {A11 : Nat → Int32} {A12 : Nat → Int32} {A13 : Nat → Int32} {e_x1 : Int32} {e_x2 : Int32} {e_x3 : Int32} {e_x4 : Int32} {e_z0 : Int32} (h : zb_X_fewest_36 kp kJ9 x1 x2 x3 x4 z0 S0 A2 A3 A4 A14 A15 A16 A17 = true) (q_x1 : e_x1 = nI x1) (q_x2 : e_x2 = nI x2) (q_x3 : e_x3 = nI x3) (q_x4 : e_x4 = nI x4) (q_z0 : e_z0 = nI z0) (hp : ∀ r w16 w17 w18 w19 : Nat, kp r w16 w17 w18 w19 = true → post (nI r) ((nI S0), S1, S2, A1, (zq_g A2), (zq_g A3), (zq_g A4), A5, A6, A7, A8, A9, A10, A11, A12, A13, (zq_g w16), (zq_g w17), (zq_g w18), (zq_g w19))) (hJ9 : ∀ y_x2 y_x3 y_x4 v16 v17 v18 v19 : Nat, kJ9 y_x2 y_x3 y_x4 v16 v17 v18 v19 = true → J9 (nI y_x2) (nI y_x3) (nI y_x4) (nI S0) S1 S2 A1 (zq_g A2) (zq_g A3) (zq_g A4) A5 A6 A7 A8 A9 A10 A11 A12 A13 (zq_g v16) (zq_g v17) (zq_g v18) (zq_g v19)) : wX_fewest_36 post J9 e_x1 e_x2 e_x3 e_x4 e_z0 (nI S0) S1 S2 A1 (zq_g A2) (zq_g A3) (zq_g A4) A5 A6 A7 A8 A9 A10 A11 A12 A13 (zq_g A14) (zq_g A15) (zq_g A16) (zq_g A17) := by
  subst q_x1; subst q_x2; subst q_x3; subst q_x4; subst q_z0; have h : (zq_if (zq_le (nat_lit 0) z0)
        (zq_if (zq_le x3 z0)
        (zb_X_fewest_54 kp kJ9 x1 x2 x3 x4 z0 S0 A2 A3 A4 A14 A15 A16 A17)
        (zb_X_fewest_54 kp kJ9 x1 (nat_lit 0) x3 x4 z0 S0 A2 A3 A4 A14 A15 A16 A17))
        (zq_fc (zq_add x4 (nat_lit 1)) (fun x4_11 => kJ9 x2 x3 x4_11 A14 A15 A16 A17))) = true := h
  exact zq_br h (zq_cle rfl rfl)
        (fun h => zq_br h (zq_cle rfl rfl)
        (fun h => zs_X_fewest_54 h rfl rfl rfl rfl rfl hp hJ9)
        (fun h => zs_X_fewest_54 h rfl rfl rfl rfl rfl hp hJ9))
        (fun h => zq_ly h (zq_hadd rfl rfl) (fun x4_11 h => hJ9 _ _ _ _ _ _ _ h))
noncomputable def zb_X_fewest_9 (kp : Nat → Nat → Nat → Nat → Nat → Bool) (x1 : Nat) (S0 : Nat) (A2 : Nat) (A3 : Nat) (A4 : Nat) : Nat → Nat → Nat → Nat → Nat → Nat → Nat → Nat → Bool := fun fu => @Nat.rec (fun _ => Nat → Nat → Nat → Nat → Nat → Nat → Nat → Bool) (fun _ _ _ _ _ _ _ => false) (fun _ ih => fun x2 x3 x4 A14 A15 A16 A17 =>
        zq_if (zq_le (nat_lit 5) x4)
        (zq_if (zq_eq x2 (nat_lit 0))
        (kp (nat_lit 31) A14 A15 A16 A17)
        (kp x2 A14 A15 A16 A17))
        (zq_if (zq_eq x1 (nat_lit 15))
        (zb_X_swapsOf (fun r_12 am2414_57 am2415_60 am2416_63 am2417_66 => zb_X_fewest_36 kp ih x1 x2 x3 x4 r_12 S0 A2 A3 A4 am2414_57 am2415_60 am2416_63 am2417_66) x4 S0 A2 A4 A14 A15 A16 A17)
        (zb_X_removalsOf (fun r_4 => zb_X_fewest_36 kp ih x1 x2 x3 x4 r_4 S0 A2 A3 A4 A14 A15 A16 A17) x4 S0 A3))) fu
theorem zr_X_fewest_9 {post : Int32 → St2 → Prop} {kp : Nat → Nat → Nat → Nat → Nat → Bool} {x1 : Nat} {S0 : Nat} {A2 : Nat} {A3 : Nat} {A4 : Nat} {S1 : Int32} {S2 : Int32} {A1 : Nat → Int32} {A5 : Nat → Int32} {A6 : Nat → Int32} {A7 : Nat → Int32} {A8 : Nat → Int32} {A9 : Nat → Int32} {A10 : Nat → Int32} {A11 : Nat → Int32} {A12 : Nat → Int32} {A13 : Nat → Int32} (hp : ∀ r w16 w17 w18 w19 : Nat, kp r w16 w17 w18 w19 = true → post (nI r) ((nI S0), S1, S2, A1, (zq_g A2), (zq_g A3), (zq_g A4), A5, A6, A7, A8, A9, A10, A11, A12, A13, (zq_g w16), (zq_g w17), (zq_g w18), (zq_g w19))) (fu : Nat) : ∀ (x2 : Nat) (x3 : Nat) (x4 : Nat) (A14 : Nat) (A15 : Nat) (A16 : Nat) (A17 : Nat) (e_x2 : Int32) (e_x3 : Int32) (e_x4 : Int32), zb_X_fewest_9 kp x1 S0 A2 A3 A4 fu x2 x3 x4 A14 A15 A16 A17 = true → e_x2 = nI x2 → e_x3 = nI x3 → e_x4 = nI x4 → wX_fewest_9 post (nI x1) fu e_x2 e_x3 e_x4 (nI S0) S1 S2 A1 (zq_g A2) (zq_g A3) (zq_g A4) A5 A6 A7 A8 A9 A10 A11 A12 A13 (zq_g A14) (zq_g A15) (zq_g A16) (zq_g A17) := by
  induction fu with
  | zero => intro x2 x3 x4 A14 A15 A16 A17 e_x2 e_x3 e_x4 h q_x2 q_x3 q_x4; exact absurd h Bool.false_ne_true
  | succ n ih =>
    intro x2 x3 x4 A14 A15 A16 A17 e_x2 e_x3 e_x4 h q_x2 q_x3 q_x4
    subst q_x2; subst q_x3; subst q_x4; have h : (zq_if (zq_le (nat_lit 5) x4)
        (zq_if (zq_eq x2 (nat_lit 0))
        (kp (nat_lit 31) A14 A15 A16 A17)
        (kp x2 A14 A15 A16 A17))
        (zq_if (zq_eq x1 (nat_lit 15))
        (zb_X_swapsOf (fun r_12 am2414_57 am2415_60 am2416_63 am2417_66 => zb_X_fewest_36 kp (zb_X_fewest_9 kp x1 S0 A2 A3 A4 n) x1 x2 x3 x4 r_12 S0 A2 A3 A4 am2414_57 am2415_60 am2416_63 am2417_66) x4 S0 A2 A4 A14 A15 A16 A17)
        (zb_X_removalsOf (fun r_4 => zb_X_fewest_36 kp (zb_X_fewest_9 kp x1 S0 A2 A3 A4 n) x1 x2 x3 x4 r_4 S0 A2 A3 A4 A14 A15 A16 A17) x4 S0 A3))) = true := h
    exact zq_br h (zq_cle rfl rfl)
        (fun h => zq_br h (zq_ceq rfl rfl)
        (fun h => hp _ _ _ _ _ h)
        (fun h => hp _ _ _ _ _ h))
        (fun h => zq_br h (zq_ceq rfl rfl)
        (fun h => zs_X_swapsOf h rfl (fun r_12 am2414_57 am2415_60 am2416_63 am2417_66 h => zs_X_fewest_36 h rfl rfl rfl rfl rfl hp (fun y0 y1 y2 y3 y4 y5 y6 h => ih y0 y1 y2 y3 y4 y5 y6 _ _ _ h rfl rfl rfl)))
        (fun h => zs_X_removalsOf h rfl (fun r_4 h => zs_X_fewest_36 h rfl rfl rfl rfl rfl hp (fun y0 y1 y2 y3 y4 y5 y6 h => ih y0 y1 y2 y3 y4 y5 y6 _ _ _ h rfl rfl rfl))))
theorem zs_X_fewest_9 {post : Int32 → St2 → Prop} {kp : Nat → Nat → Nat → Nat → Nat → Bool} {x1 : Nat} {S0 : Nat} {A2 : Nat} {A3 : Nat} {A4 : Nat} {x2 : Nat} {x3 : Nat} {x4 : Nat} {A14 : Nat} {A15 : Nat} {A16 : Nat} {A17 : Nat} {S1 : Int32} {S2 : Int32} {A1 : Nat → Int32} {A5 : Nat → Int32} {A6 : Nat → Int32} {A7 : Nat → Int32} {A8 : Nat → Int32} {A9 : Nat → Int32} {A10 : Nat → Int32} {A11 : Nat → Int32} {A12 : Nat → Int32} {A13 : Nat → Int32} {e_x1 : Int32} {e_x2 : Int32} {e_x3 : Int32} {e_x4 : Int32} {fu : Nat} (h : zb_X_fewest_9 kp x1 S0 A2 A3 A4 fu x2 x3 x4 A14 A15 A16 A17 = true) (q_x1 : e_x1 = nI x1) (q_x2 : e_x2 = nI x2) (q_x3 : e_x3 = nI x3) (q_x4 : e_x4 = nI x4) (hp : ∀ r w16 w17 w18 w19 : Nat, kp r w16 w17 w18 w19 = true → post (nI r) ((nI S0), S1, S2, A1, (zq_g A2), (zq_g A3), (zq_g A4), A5, A6, A7, A8, A9, A10, A11, A12, A13, (zq_g w16), (zq_g w17), (zq_g w18), (zq_g w19))) : wX_fewest_9 post e_x1 fu e_x2 e_x3 e_x4 (nI S0) S1 S2 A1 (zq_g A2) (zq_g A3) (zq_g A4) A5 A6 A7 A8 A9 A10 A11 A12 A13 (zq_g A14) (zq_g A15) (zq_g A16) (zq_g A17) := by
  subst q_x1; exact zr_X_fewest_9 hp fu _ _ _ _ _ _ _ _ _ _ h q_x2 q_x3 q_x4
noncomputable def zb_X_fewest (kp : Nat → Nat → Nat → Nat → Nat → Bool) (p0 : Nat) (S0 : Nat) (A2 : Nat) (A3 : Nat) (A4 : Nat) (A14 : Nat) (A15 : Nat) (A16 : Nat) (A17 : Nat) : Bool :=
        zb_X_fewest_9 kp p0 S0 A2 A3 A4 40 (nat_lit 0) (nat_lit 1000) (nat_lit 0) A14 A15 A16 A17
theorem zs_X_fewest {post : Int32 → St2 → Prop} {kp : Nat → Nat → Nat → Nat → Nat → Bool} {p0 : Nat} {S0 : Nat} {A2 : Nat} {A3 : Nat} {A4 : Nat} {A14 : Nat} {A15 : Nat} {A16 : Nat} {A17 : Nat} {S1 : Int32} {S2 : Int32} {A1 : Nat → Int32} {A5 : Nat → Int32} {A6 : Nat → Int32} {A7 : Nat → Int32} {A8 : Nat → Int32} {A9 : Nat → Int32} {A10 : Nat → Int32} {A11 : Nat → Int32} {A12 : Nat → Int32} {A13 : Nat → Int32} {e_p0 : Int32} (h : zb_X_fewest kp p0 S0 A2 A3 A4 A14 A15 A16 A17 = true) (q_p0 : e_p0 = nI p0) (hp : ∀ r w16 w17 w18 w19 : Nat, kp r w16 w17 w18 w19 = true → post (nI r) ((nI S0), S1, S2, A1, (zq_g A2), (zq_g A3), (zq_g A4), A5, A6, A7, A8, A9, A10, A11, A12, A13, (zq_g w16), (zq_g w17), (zq_g w18), (zq_g w19))) : wpX_fewest post ((nI S0), S1, S2, A1, (zq_g A2), (zq_g A3), (zq_g A4), A5, A6, A7, A8, A9, A10, A11, A12, A13, (zq_g A14), (zq_g A15), (zq_g A16), (zq_g A17)) e_p0 := by
  subst q_p0; have h : (zb_X_fewest_9 kp p0 S0 A2 A3 A4 40 (nat_lit 0) (nat_lit 1000) (nat_lit 0) A14 A15 A16 A17) = true := h
  exact Exists.intro 40 (zs_X_fewest_9 h rfl rfl rfl rfl hp)
end
section
/-! printed by gen.py: wpX_isIn .. wpX_smallestSet -/
noncomputable def zb_X_isIn (kp : Nat → Bool) (p0 : Nat) (p1 : Nat) : Bool :=
        zq_if (zq_eq (zq_and (zq_shr p0 p1) (nat_lit 1)) (nat_lit 0))
        (kp (nat_lit 0))
        (kp (nat_lit 1))
theorem zs_X_isIn {post : Int32 → Prop} {kp : Nat → Bool} {p0 : Nat} {p1 : Nat} {S0 : Int32} {S1 : Int32} {S2 : Int32} {A1 : Nat → Int32} {A2 : Nat → Int32} {A3 : Nat → Int32} {A4 : Nat → Int32} {A5 : Nat → Int32} {A6 : Nat → Int32} {A7 : Nat → Int32} {A8 : Nat → Int32} {A9 : Nat → Int32} {A10 : Nat → Int32} {A11 : Nat → Int32} {A12 : Nat → Int32} {A13 : Nat → Int32} {A14 : Nat → Int32} {A15 : Nat → Int32} {A16 : Nat → Int32} {A17 : Nat → Int32} {e_p0 : Int32} {e_p1 : Int32} (h : zb_X_isIn kp p0 p1 = true) (q_p0 : e_p0 = nI p0) (q_p1 : e_p1 = nI p1) (hp : ∀ r : Nat, kp r = true → post (nI r)) : wpX_isIn post (S0, S1, S2, A1, A2, A3, A4, A5, A6, A7, A8, A9, A10, A11, A12, A13, A14, A15, A16, A17) e_p0 e_p1 := by
  subst q_p0; subst q_p1; have h : (zq_if (zq_eq (zq_and (zq_shr p0 p1) (nat_lit 1)) (nat_lit 0))
        (kp (nat_lit 0))
        (kp (nat_lit 1))) = true := h
  exact zq_br h (zq_ceq (zq_hand (zq_hshr rfl rfl) rfl) rfl)
        (fun h => hp _ h)
        (fun h => hp _ h)
noncomputable def zb_X_frontOf_14 (kp : Nat → Bool) (x1 : Nat) (x4 : Nat) (A5 : Nat) : Nat → Nat → Nat → Nat → Bool := fun fu => @Nat.rec (fun _ => Nat → Nat → Nat → Bool) (fun _ _ _ => false) (fun _ ih => fun x2 x3 x5 =>
        zq_if (zq_le (nat_lit 5) x5)
        (zq_if (zq_eq x2 (zq_sub (zq_shl (nat_lit 1) x4) (nat_lit 1)))
        (kp x3)
        (kp (nat_lit 4294967295)))
        (zb_X_isIn (fun r_4 => zq_if (zq_eq r_4 (nat_lit 0))
        (zq_fc (zq_add x5 (nat_lit 1)) (fun x5_12 => ih x2 x3 x5_12))
        (zq_if (zq_in x5 (nat_lit 5))
        (zq_fc (zq_and (zq_get A5 (zq_cl x5)) x1) (fun y1 => zb_X_onesIn (fun r_7 => zq_fc (zq_or x2 (zq_shl (nat_lit 1) r_7)) (fun x2_8 => zq_if (zq_eq r_7 (zq_sub x4 (nat_lit 1)))
        (zq_fc (zq_add x5 (nat_lit 1)) (fun x5_11 => ih x2_8 x5 x5_11))
        (zq_fc (zq_add x5 (nat_lit 1)) (fun x5_10 => ih x2_8 x3 x5_10)))) y1)) false)) x1 x5)) fu
theorem zr_X_frontOf_14 {post : Int32 → Prop} {kp : Nat → Bool} {x1 : Nat} {x4 : Nat} {A5 : Nat} {S0 : Int32} {S1 : Int32} {S2 : Int32} {A1 : Nat → Int32} {A2 : Nat → Int32} {A3 : Nat → Int32} {A4 : Nat → Int32} {A6 : Nat → Int32} {A7 : Nat → Int32} {A8 : Nat → Int32} {A9 : Nat → Int32} {A10 : Nat → Int32} {A11 : Nat → Int32} {A12 : Nat → Int32} {A13 : Nat → Int32} {A14 : Nat → Int32} {A15 : Nat → Int32} {A16 : Nat → Int32} {A17 : Nat → Int32} (hp : ∀ r : Nat, kp r = true → post (nI r)) (fu : Nat) : ∀ (x2 : Nat) (x3 : Nat) (x5 : Nat) (e_x2 : Int32) (e_x3 : Int32) (e_x5 : Int32), zb_X_frontOf_14 kp x1 x4 A5 fu x2 x3 x5 = true → e_x2 = nI x2 → e_x3 = nI x3 → e_x5 = nI x5 → wX_frontOf_14 post (nI x1) (nI x4) S0 S1 S2 A1 A2 A3 A4 (zq_g A5) A6 A7 A8 A9 A10 A11 A12 A13 A14 A15 A16 A17 fu e_x2 e_x3 e_x5 := by
  induction fu with
  | zero => intro x2 x3 x5 e_x2 e_x3 e_x5 h q_x2 q_x3 q_x5; exact absurd h Bool.false_ne_true
  | succ n ih =>
    intro x2 x3 x5 e_x2 e_x3 e_x5 h q_x2 q_x3 q_x5
    subst q_x2; subst q_x3; subst q_x5; have h : (zq_if (zq_le (nat_lit 5) x5)
        (zq_if (zq_eq x2 (zq_sub (zq_shl (nat_lit 1) x4) (nat_lit 1)))
        (kp x3)
        (kp (nat_lit 4294967295)))
        (zb_X_isIn (fun r_4 => zq_if (zq_eq r_4 (nat_lit 0))
        (zq_fc (zq_add x5 (nat_lit 1)) (fun x5_12 => (zb_X_frontOf_14 kp x1 x4 A5 n) x2 x3 x5_12))
        (zq_if (zq_in x5 (nat_lit 5))
        (zq_fc (zq_and (zq_get A5 (zq_cl x5)) x1) (fun y1 => zb_X_onesIn (fun r_7 => zq_fc (zq_or x2 (zq_shl (nat_lit 1) r_7)) (fun x2_8 => zq_if (zq_eq r_7 (zq_sub x4 (nat_lit 1)))
        (zq_fc (zq_add x5 (nat_lit 1)) (fun x5_11 => (zb_X_frontOf_14 kp x1 x4 A5 n) x2_8 x5 x5_11))
        (zq_fc (zq_add x5 (nat_lit 1)) (fun x5_10 => (zb_X_frontOf_14 kp x1 x4 A5 n) x2_8 x3 x5_10)))) y1)) false)) x1 x5)) = true := h
    exact zq_br h (zq_cle rfl rfl)
        (fun h => zq_br h (zq_ceq rfl (zq_hsub (zq_hshl rfl rfl) rfl))
        (fun h => hp _ h)
        (fun h => Eq.mpr (congrArg post zq_m1) (hp _ h)))
        (fun h => zs_X_isIn h rfl rfl (fun r_4 h => zq_br h (zq_ceq rfl rfl)
        (fun h => zq_ly h (zq_hadd rfl rfl) (fun x5_12 h => ih _ _ _ _ _ _ h rfl rfl rfl))
        (fun h => zq_vi h rfl (by decide) (fun h => have h := zq_fe h; zs_X_onesIn h (zq_hand (zq_rd rfl) rfl) (fun r_7 h => zq_ly h (zq_hor rfl (zq_hshl rfl rfl)) (fun x2_8 h => zq_br h (zq_ceq rfl (zq_hsub rfl rfl))
        (fun h => zq_ly h (zq_hadd rfl rfl) (fun x5_11 h => ih _ _ _ _ _ _ h rfl rfl rfl))
        (fun h => zq_ly h (zq_hadd rfl rfl) (fun x5_10 h => ih _ _ _ _ _ _ h rfl rfl rfl))))))))
theorem zs_X_frontOf_14 {post : Int32 → Prop} {kp : Nat → Bool} {x1 : Nat} {x4 : Nat} {A5 : Nat} {x2 : Nat} {x3 : Nat} {x5 : Nat} {S0 : Int32} {S1 : Int32} {S2 : Int32} {A1 : Nat → Int32} {A2 : Nat → Int32} {A3 : Nat → Int32} {A4 : Nat → Int32} {A6 : Nat → Int32} {A7 : Nat → Int32} {A8 : Nat → Int32} {A9 : Nat → Int32} {A10 : Nat → Int32} {A11 : Nat → Int32} {A12 : Nat → Int32} {A13 : Nat → Int32} {A14 : Nat → Int32} {A15 : Nat → Int32} {A16 : Nat → Int32} {A17 : Nat → Int32} {e_x1 : Int32} {e_x4 : Int32} {e_x2 : Int32} {e_x3 : Int32} {e_x5 : Int32} {fu : Nat} (h : zb_X_frontOf_14 kp x1 x4 A5 fu x2 x3 x5 = true) (q_x1 : e_x1 = nI x1) (q_x4 : e_x4 = nI x4) (q_x2 : e_x2 = nI x2) (q_x3 : e_x3 = nI x3) (q_x5 : e_x5 = nI x5) (hp : ∀ r : Nat, kp r = true → post (nI r)) : wX_frontOf_14 post e_x1 e_x4 S0 S1 S2 A1 A2 A3 A4 (zq_g A5) A6 A7 A8 A9 A10 A11 A12 A13 A14 A15 A16 A17 fu e_x2 e_x3 e_x5 := by
  subst q_x1; subst q_x4; exact zr_X_frontOf_14 hp fu _ _ _ _ _ _ h q_x2 q_x3 q_x5
noncomputable def zb_X_frontOf (kp : Nat → Bool) (p0 : Nat) (A5 : Nat) : Bool :=
        zb_X_onesIn (fun r_1 => zb_X_frontOf_14 kp p0 r_1 A5 40 (nat_lit 0) (nat_lit 4294967295) (nat_lit 0)) p0
theorem zs_X_frontOf {post : Int32 → Prop} {kp : Nat → Bool} {p0 : Nat} {A5 : Nat} {S0 : Int32} {S1 : Int32} {S2 : Int32} {A1 : Nat → Int32} {A2 : Nat → Int32} {A3 : Nat → Int32} {A4 : Nat → Int32} {A6 : Nat → Int32} {A7 : Nat → Int32} {A8 : Nat → Int32} {A9 : Nat → Int32} {A10 : Nat → Int32} {A11 : Nat → Int32} {A12 : Nat → Int32} {A13 : Nat → Int32} {A14 : Nat → Int32} {A15 : Nat → Int32} {A16 : Nat → Int32} {A17 : Nat → Int32} {e_p0 : Int32} (h : zb_X_frontOf kp p0 A5 = true) (q_p0 : e_p0 = nI p0) (hp : ∀ r : Nat, kp r = true → post (nI r)) : wpX_frontOf post (S0, S1, S2, A1, A2, A3, A4, (zq_g A5), A6, A7, A8, A9, A10, A11, A12, A13, A14, A15, A16, A17) e_p0 := by
  subst q_p0; have h : (zb_X_onesIn (fun r_1 => zb_X_frontOf_14 kp p0 r_1 A5 40 (nat_lit 0) (nat_lit 4294967295) (nat_lit 0)) p0) = true := h
  exact zs_X_onesIn h rfl (fun r_1 h => Exists.intro 40 (zs_X_frontOf_14 h rfl rfl rfl zq_m1 rfl hp))
noncomputable def zb_X_chainFronts_77 (kp : Nat → Bool) (kJ4 : Nat → Nat → Bool) (x1 : Nat) (x2 : Nat) (x3 : Nat) (x4 : Nat) (A5 : Nat) : Bool :=
        zq_if (zq_eq x4 (nat_lit 0))
        (zq_fc (zq_add x2 (nat_lit 1)) (fun x2_6 => kJ4 x1 x2_6))
        (zq_fc (zq_or x1 (zq_shl (nat_lit 1) x3)) (fun x1_7 => zq_fc (zq_add x2 (nat_lit 1)) (fun x2_8 => kJ4 x1_7 x2_8)))
theorem zs_X_chainFronts_77 {post : Int32 → Prop} {J4 : Int32 → Int32 → Prop} {kp : Nat → Bool} {kJ4 : Nat → Nat → Bool} {x1 : Nat} {x2 : Nat} {x3 : Nat} {x4 : Nat} {A5 : Nat} {S0 : Int32} {S1 : Int32} {S2 : Int32} {A1 : Nat → Int32} {A2 : Nat → Int32} {A3 : Nat → Int32} {A4 : Nat → Int32} {A6 : Nat → Int32} {A7 : Nat → Int32} {A8 : Nat → Int32} {A9 : Nat → Int32} {A10 : Nat → Int32} {A11 : Nat → Int32} {A12 : Nat → Int32} {A13 : Nat → Int32} {A14 : Nat → Int32} {A15 : Nat → Int32} {A16 : Nat → Int32} {A17 : Nat → Int32} {e_x1 : Int32} {e_x2 : Int32} {e_x3 : Int32} {e_x4 : Int32} (h : zb_X_chainFronts_77 kp kJ4 x1 x2 x3 x4 A5 = true) (q_x1 : e_x1 = nI x1) (q_x2 : e_x2 = nI x2) (q_x3 : e_x3 = nI x3) (q_x4 : e_x4 = nI x4) (hp : ∀ r : Nat, kp r = true → post (nI r)) (hJ4 : ∀ y_x1 y_x2 : Nat, kJ4 y_x1 y_x2 = true → J4 (nI y_x1) (nI y_x2)) : wX_chainFronts_77 post J4 e_x1 e_x2 e_x3 e_x4 S0 S1 S2 A1 A2 A3 A4 (zq_g A5) A6 A7 A8 A9 A10 A11 A12 A13 A14 A15 A16 A17 := by
  subst q_x1; subst q_x2; subst q_x3; subst q_x4; have h : (zq_if (zq_eq x4 (nat_lit 0))
        (zq_fc (zq_add x2 (nat_lit 1)) (fun x2_6 => kJ4 x1 x2_6))
        (zq_fc (zq_or x1 (zq_shl (nat_lit 1) x3)) (fun x1_7 => zq_fc (zq_add x2 (nat_lit 1)) (fun x2_8 => kJ4 x1_7 x2_8)))) = true := h
  exact zq_br h (zq_ceq rfl rfl)
        (fun h => zq_ly h (zq_hadd rfl rfl) (fun x2_6 h => hJ4 _ _ h))
        (fun h => zq_ly h (zq_hor rfl (zq_hshl rfl rfl)) (fun x1_7 h => zq_ly h (zq_hadd rfl rfl) (fun x2_8 h => hJ4 _ _ h)))
noncomputable def zb_X_chainFronts_29 (kp : Nat → Bool) (kJ4 : Nat → Nat → Bool) (x1 : Nat) (x2 : Nat) (x3 : Nat) (A5 : Nat) : Nat → Nat → Nat → Bool := fun fu => @Nat.rec (fun _ => Nat → Nat → Bool) (fun _ _ => false) (fun _ ih => fun x4 x5 =>
        zq_if (zq_le (nat_lit 5) x5)
        (zb_X_chainFronts_77 kp kJ4 x1 x2 x3 x4 A5)
        (zq_if (zq_eq x4 (nat_lit 0))
        (zb_X_chainFronts_77 kp kJ4 x1 x2 x3 x4 A5)
        (zb_X_isIn (fun r_10 => zq_if (zq_eq r_10 (nat_lit 0))
        (zq_if (zq_in x5 (nat_lit 5))
        (zq_if (zq_eq (zq_and x2 (zq_xor (zq_get A5 (zq_cl x5)) (nat_lit 4294967295))) (nat_lit 0))
        (zq_fc (zq_add x5 (nat_lit 1)) (fun x5_15 => ih (nat_lit 0) x5_15))
        (zq_fc (zq_add x5 (nat_lit 1)) (fun x5_16 => ih (nat_lit 1) x5_16))) false)
        (zq_fc (zq_add x5 (nat_lit 1)) (fun x5_12 => ih (nat_lit 1) x5_12))) x2 x5))) fu
theorem zr_X_chainFronts_29 {post : Int32 → Prop} {J4 : Int32 → Int32 → Prop} {kp : Nat → Bool} {kJ4 : Nat → Nat → Bool} {x1 : Nat} {x2 : Nat} {x3 : Nat} {A5 : Nat} {S0 : Int32} {S1 : Int32} {S2 : Int32} {A1 : Nat → Int32} {A2 : Nat → Int32} {A3 : Nat → Int32} {A4 : Nat → Int32} {A6 : Nat → Int32} {A7 : Nat → Int32} {A8 : Nat → Int32} {A9 : Nat → Int32} {A10 : Nat → Int32} {A11 : Nat → Int32} {A12 : Nat → Int32} {A13 : Nat → Int32} {A14 : Nat → Int32} {A15 : Nat → Int32} {A16 : Nat → Int32} {A17 : Nat → Int32} (hp : ∀ r : Nat, kp r = true → post (nI r)) (hJ4 : ∀ y_x1 y_x2 : Nat, kJ4 y_x1 y_x2 = true → J4 (nI y_x1) (nI y_x2)) (fu : Nat) : ∀ (x4 : Nat) (x5 : Nat) (e_x4 : Int32) (e_x5 : Int32), zb_X_chainFronts_29 kp kJ4 x1 x2 x3 A5 fu x4 x5 = true → e_x4 = nI x4 → e_x5 = nI x5 → wX_chainFronts_29 post J4 (nI x1) (nI x2) (nI x3) S0 S1 S2 A1 A2 A3 A4 (zq_g A5) A6 A7 A8 A9 A10 A11 A12 A13 A14 A15 A16 A17 fu e_x4 e_x5 := by
  induction fu with
  | zero => intro x4 x5 e_x4 e_x5 h q_x4 q_x5; exact absurd h Bool.false_ne_true
  | succ n ih =>
    intro x4 x5 e_x4 e_x5 h q_x4 q_x5
    subst q_x4; subst q_x5; have h : (zq_if (zq_le (nat_lit 5) x5)
        (zb_X_chainFronts_77 kp kJ4 x1 x2 x3 x4 A5)
        (zq_if (zq_eq x4 (nat_lit 0))
        (zb_X_chainFronts_77 kp kJ4 x1 x2 x3 x4 A5)
        (zb_X_isIn (fun r_10 => zq_if (zq_eq r_10 (nat_lit 0))
        (zq_if (zq_in x5 (nat_lit 5))
        (zq_if (zq_eq (zq_and x2 (zq_xor (zq_get A5 (zq_cl x5)) (nat_lit 4294967295))) (nat_lit 0))
        (zq_fc (zq_add x5 (nat_lit 1)) (fun x5_15 => (zb_X_chainFronts_29 kp kJ4 x1 x2 x3 A5 n) (nat_lit 0) x5_15))
        (zq_fc (zq_add x5 (nat_lit 1)) (fun x5_16 => (zb_X_chainFronts_29 kp kJ4 x1 x2 x3 A5 n) (nat_lit 1) x5_16))) false)
        (zq_fc (zq_add x5 (nat_lit 1)) (fun x5_12 => (zb_X_chainFronts_29 kp kJ4 x1 x2 x3 A5 n) (nat_lit 1) x5_12))) x2 x5))) = true := h
    exact zq_br h (zq_cle rfl rfl)
        (fun h => zs_X_chainFronts_77 h rfl rfl rfl rfl hp hJ4)
        (fun h => zq_br h (zq_ceq rfl rfl)
        (fun h => zs_X_chainFronts_77 h rfl rfl rfl rfl hp hJ4)
        (fun h => zs_X_isIn h rfl rfl (fun r_10 h => zq_br h (zq_ceq rfl rfl)
        (fun h => zq_vi h rfl (by decide) (fun h => zq_br h (zq_ceq (zq_hand rfl (zq_hxor (zq_rd rfl) zq_m1)) rfl)
        (fun h => zq_ly h (zq_hadd rfl rfl) (fun x5_15 h => ih _ _ _ _ h rfl rfl))
        (fun h => zq_ly h (zq_hadd rfl rfl) (fun x5_16 h => ih _ _ _ _ h rfl rfl))))
        (fun h => zq_ly h (zq_hadd rfl rfl) (fun x5_12 h => ih _ _ _ _ h rfl rfl)))))
theorem zs_X_chainFronts_29 {post : Int32 → Prop} {J4 : Int32 → Int32 → Prop} {kp : Nat → Bool} {kJ4 : Nat → Nat → Bool} {x1 : Nat} {x2 : Nat} {x3 : Nat} {A5 : Nat} {x4 : Nat} {x5 : Nat} {S0 : Int32} {S1 : Int32} {S2 : Int32} {A1 : Nat → Int32} {A2 : Nat → Int32} {A3 : Nat → Int32} {A4 : Nat → Int32} {A6 : Nat → Int32} {A7 : Nat → Int32} {A8 : Nat → Int32} {A9 : Nat → Int32} {A10 : Nat → Int32} {A11 : Nat → Int32} {A12 : Nat → Int32} {A13 : Nat → Int32} {A14 : Nat → Int32} {A15 : Nat → Int32} {A16 : Nat → Int32} {A17 : Nat → Int32} {e_x1 : Int32} {e_x2 : Int32} {e_x3 : Int32} {e_x4 : Int32} {e_x5 : Int32} {fu : Nat} (h : zb_X_chainFronts_29 kp kJ4 x1 x2 x3 A5 fu x4 x5 = true) (q_x1 : e_x1 = nI x1) (q_x2 : e_x2 = nI x2) (q_x3 : e_x3 = nI x3) (q_x4 : e_x4 = nI x4) (q_x5 : e_x5 = nI x5) (hp : ∀ r : Nat, kp r = true → post (nI r)) (hJ4 : ∀ y_x1 y_x2 : Nat, kJ4 y_x1 y_x2 = true → J4 (nI y_x1) (nI y_x2)) : wX_chainFronts_29 post J4 e_x1 e_x2 e_x3 S0 S1 S2 A1 A2 A3 A4 (zq_g A5) A6 A7 A8 A9 A10 A11 A12 A13 A14 A15 A16 A17 fu e_x4 e_x5 := by
  subst q_x1; subst q_x2; subst q_x3; exact zr_X_chainFronts_29 hp hJ4 fu _ _ _ _ h q_x4 q_x5
noncomputable def zb_X_chainFronts_4 (kp : Nat → Bool) (A5 : Nat) : Nat → Nat → Nat → Bool := fun fu => @Nat.rec (fun _ => Nat → Nat → Bool) (fun _ _ => false) (fun _ ih => fun x1 x2 =>
        zq_if (zq_lt (nat_lit 31) x2)
        (kp x1)
        (zb_X_frontOf (fun r_2 => zq_if (zq_le (nat_lit 0) r_2)
        (zb_X_chainFronts_29 kp ih x1 x2 r_2 A5 40 (nat_lit 1) (nat_lit 0))
        (zq_fc (zq_add x2 (nat_lit 1)) (fun x2_17 => ih x1 x2_17))) x2 A5)) fu
theorem zr_X_chainFronts_4 {post : Int32 → Prop} {kp : Nat → Bool} {A5 : Nat} {S0 : Int32} {S1 : Int32} {S2 : Int32} {A1 : Nat → Int32} {A2 : Nat → Int32} {A3 : Nat → Int32} {A4 : Nat → Int32} {A6 : Nat → Int32} {A7 : Nat → Int32} {A8 : Nat → Int32} {A9 : Nat → Int32} {A10 : Nat → Int32} {A11 : Nat → Int32} {A12 : Nat → Int32} {A13 : Nat → Int32} {A14 : Nat → Int32} {A15 : Nat → Int32} {A16 : Nat → Int32} {A17 : Nat → Int32} (hp : ∀ r : Nat, kp r = true → post (nI r)) (fu : Nat) : ∀ (x1 : Nat) (x2 : Nat) (e_x1 : Int32) (e_x2 : Int32), zb_X_chainFronts_4 kp A5 fu x1 x2 = true → e_x1 = nI x1 → e_x2 = nI x2 → wX_chainFronts_4 post S0 S1 S2 A1 A2 A3 A4 (zq_g A5) A6 A7 A8 A9 A10 A11 A12 A13 A14 A15 A16 A17 fu e_x1 e_x2 := by
  induction fu with
  | zero => intro x1 x2 e_x1 e_x2 h q_x1 q_x2; exact absurd h Bool.false_ne_true
  | succ n ih =>
    intro x1 x2 e_x1 e_x2 h q_x1 q_x2
    subst q_x1; subst q_x2; have h : (zq_if (zq_lt (nat_lit 31) x2)
        (kp x1)
        (zb_X_frontOf (fun r_2 => zq_if (zq_le (nat_lit 0) r_2)
        (zb_X_chainFronts_29 kp (zb_X_chainFronts_4 kp A5 n) x1 x2 r_2 A5 40 (nat_lit 1) (nat_lit 0))
        (zq_fc (zq_add x2 (nat_lit 1)) (fun x2_17 => (zb_X_chainFronts_4 kp A5 n) x1 x2_17))) x2 A5)) = true := h
    exact zq_br h (zq_clt rfl rfl)
        (fun h => hp _ h)
        (fun h => zs_X_frontOf h rfl (fun r_2 h => zq_br h (zq_cle rfl rfl)
        (fun h => Exists.intro 40 (zs_X_chainFronts_29 h rfl rfl rfl rfl rfl hp (fun y0 y1 h => ih y0 y1 _ _ h rfl rfl)))
        (fun h => zq_ly h (zq_hadd rfl rfl) (fun x2_17 h => ih _ _ _ _ h rfl rfl))))
theorem zs_X_chainFronts_4 {post : Int32 → Prop} {kp : Nat → Bool} {A5 : Nat} {x1 : Nat} {x2 : Nat} {S0 : Int32} {S1 : Int32} {S2 : Int32} {A1 : Nat → Int32} {A2 : Nat → Int32} {A3 : Nat → Int32} {A4 : Nat → Int32} {A6 : Nat → Int32} {A7 : Nat → Int32} {A8 : Nat → Int32} {A9 : Nat → Int32} {A10 : Nat → Int32} {A11 : Nat → Int32} {A12 : Nat → Int32} {A13 : Nat → Int32} {A14 : Nat → Int32} {A15 : Nat → Int32} {A16 : Nat → Int32} {A17 : Nat → Int32} {e_x1 : Int32} {e_x2 : Int32} {fu : Nat} (h : zb_X_chainFronts_4 kp A5 fu x1 x2 = true) (q_x1 : e_x1 = nI x1) (q_x2 : e_x2 = nI x2) (hp : ∀ r : Nat, kp r = true → post (nI r)) : wX_chainFronts_4 post S0 S1 S2 A1 A2 A3 A4 (zq_g A5) A6 A7 A8 A9 A10 A11 A12 A13 A14 A15 A16 A17 fu e_x1 e_x2 := by
  exact zr_X_chainFronts_4 hp fu _ _ _ _ h q_x1 q_x2
noncomputable def zb_X_chainFronts (kp : Nat → Bool) (A5 : Nat) : Bool :=
        zb_X_chainFronts_4 kp A5 40 (nat_lit 0) (nat_lit 1)
theorem zs_X_chainFronts {post : Int32 → Prop} {kp : Nat → Bool} {A5 : Nat} {S0 : Int32} {S1 : Int32} {S2 : Int32} {A1 : Nat → Int32} {A2 : Nat → Int32} {A3 : Nat → Int32} {A4 : Nat → Int32} {A6 : Nat → Int32} {A7 : Nat → Int32} {A8 : Nat → Int32} {A9 : Nat → Int32} {A10 : Nat → Int32} {A11 : Nat → Int32} {A12 : Nat → Int32} {A13 : Nat → Int32} {A14 : Nat → Int32} {A15 : Nat → Int32} {A16 : Nat → Int32} {A17 : Nat → Int32} (h : zb_X_chainFronts kp A5 = true) (hp : ∀ r : Nat, kp r = true → post (nI r)) : wpX_chainFronts post (S0, S1, S2, A1, A2, A3, A4, (zq_g A5), A6, A7, A8, A9, A10, A11, A12, A13, A14, A15, A16, A17) := by
  have h : (zb_X_chainFronts_4 kp A5 40 (nat_lit 0) (nat_lit 1)) = true := h
  exact Exists.intro 40 (zs_X_chainFronts_4 h rfl rfl hp)
noncomputable def zb_X_uncovered_70 (kp : Nat → Bool) (kJ4 : Nat → Nat → Bool) (x1 : Nat) (x2 : Nat) (x3 : Nat) (A5 : Nat) : Bool :=
        zq_if (zq_eq x3 (nat_lit 0))
        (zq_fc (zq_add x2 (nat_lit 1)) (fun x2_4 => kJ4 x1 x2_4))
        (zq_fc (zq_or x1 (zq_shl (nat_lit 1) x2)) (fun x1_5 => zq_fc (zq_add x2 (nat_lit 1)) (fun x2_6 => kJ4 x1_5 x2_6)))
theorem zs_X_uncovered_70 {post : Int32 → Prop} {J4 : Int32 → Int32 → Prop} {kp : Nat → Bool} {kJ4 : Nat → Nat → Bool} {x1 : Nat} {x2 : Nat} {x3 : Nat} {A5 : Nat} {S0 : Int32} {S1 : Int32} {S2 : Int32} {A1 : Nat → Int32} {A2 : Nat → Int32} {A3 : Nat → Int32} {A4 : Nat → Int32} {A6 : Nat → Int32} {A7 : Nat → Int32} {A8 : Nat → Int32} {A9 : Nat → Int32} {A10 : Nat → Int32} {A11 : Nat → Int32} {A12 : Nat → Int32} {A13 : Nat → Int32} {A14 : Nat → Int32} {A15 : Nat → Int32} {A16 : Nat → Int32} {A17 : Nat → Int32} {e_x1 : Int32} {e_x2 : Int32} {e_x3 : Int32} (h : zb_X_uncovered_70 kp kJ4 x1 x2 x3 A5 = true) (q_x1 : e_x1 = nI x1) (q_x2 : e_x2 = nI x2) (q_x3 : e_x3 = nI x3) (hp : ∀ r : Nat, kp r = true → post (nI r)) (hJ4 : ∀ y_x1 y_x2 : Nat, kJ4 y_x1 y_x2 = true → J4 (nI y_x1) (nI y_x2)) : wX_uncovered_70 post J4 e_x1 e_x2 e_x3 S0 S1 S2 A1 A2 A3 A4 (zq_g A5) A6 A7 A8 A9 A10 A11 A12 A13 A14 A15 A16 A17 := by
  subst q_x1; subst q_x2; subst q_x3; have h : (zq_if (zq_eq x3 (nat_lit 0))
        (zq_fc (zq_add x2 (nat_lit 1)) (fun x2_4 => kJ4 x1 x2_4))
        (zq_fc (zq_or x1 (zq_shl (nat_lit 1) x2)) (fun x1_5 => zq_fc (zq_add x2 (nat_lit 1)) (fun x2_6 => kJ4 x1_5 x2_6)))) = true := h
  exact zq_br h (zq_ceq rfl rfl)
        (fun h => zq_ly h (zq_hadd rfl rfl) (fun x2_4 h => hJ4 _ _ h))
        (fun h => zq_ly h (zq_hor rfl (zq_hshl rfl rfl)) (fun x1_5 h => zq_ly h (zq_hadd rfl rfl) (fun x2_6 h => hJ4 _ _ h)))
noncomputable def zb_X_uncovered_14 (kp : Nat → Bool) (kJ4 : Nat → Nat → Bool) (x1 : Nat) (x2 : Nat) (A5 : Nat) : Nat → Nat → Nat → Bool := fun fu => @Nat.rec (fun _ => Nat → Nat → Bool) (fun _ _ => false) (fun _ ih => fun x3 x4 =>
        zq_if (zq_le (nat_lit 5) x4)
        (zb_X_uncovered_70 kp kJ4 x1 x2 x3 A5)
        (zq_if (zq_eq x3 (nat_lit 0))
        (zb_X_uncovered_70 kp kJ4 x1 x2 x3 A5)
        (zq_if (zq_in x4 (nat_lit 5))
        (zq_fc (zq_get A5 (zq_cl x4)) (fun y1 => zb_X_isIn (fun r_9 => zq_if (zq_eq r_9 (nat_lit 0))
        (zq_fc (zq_add x4 (nat_lit 1)) (fun x4_11 => ih (nat_lit 1) x4_11))
        (zq_if (zq_in x2 (nat_lit 5))
        (zq_if (zq_in x4 (nat_lit 5))
        (zq_if (zq_eq (zq_and (zq_get A5 (zq_cl x2)) (zq_xor (zq_get A5 (zq_cl x4)) (nat_lit 4294967295))) (nat_lit 0))
        (zq_fc (zq_add x4 (nat_lit 1)) (fun x4_15 => ih (nat_lit 0) x4_15))
        (zq_fc (zq_add x4 (nat_lit 1)) (fun x4_16 => ih (nat_lit 1) x4_16))) false) false)) y1 x2)) false))) fu
theorem zr_X_uncovered_14 {post : Int32 → Prop} {J4 : Int32 → Int32 → Prop} {kp : Nat → Bool} {kJ4 : Nat → Nat → Bool} {x1 : Nat} {x2 : Nat} {A5 : Nat} {S0 : Int32} {S1 : Int32} {S2 : Int32} {A1 : Nat → Int32} {A2 : Nat → Int32} {A3 : Nat → Int32} {A4 : Nat → Int32} {A6 : Nat → Int32} {A7 : Nat → Int32} {A8 : Nat → Int32} {A9 : Nat → Int32} {A10 : Nat → Int32} {A11 : Nat → Int32} {A12 : Nat → Int32} {A13 : Nat → Int32} {A14 : Nat → Int32} {A15 : Nat → Int32} {A16 : Nat → Int32} {A17 : Nat → Int32} (hp : ∀ r : Nat, kp r = true → post (nI r)) (hJ4 : ∀ y_x1 y_x2 : Nat, kJ4 y_x1 y_x2 = true → J4 (nI y_x1) (nI y_x2)) (fu : Nat) : ∀ (x3 : Nat) (x4 : Nat) (e_x3 : Int32) (e_x4 : Int32), zb_X_uncovered_14 kp kJ4 x1 x2 A5 fu x3 x4 = true → e_x3 = nI x3 → e_x4 = nI x4 → wX_uncovered_14 post J4 (nI x1) (nI x2) S0 S1 S2 A1 A2 A3 A4 (zq_g A5) A6 A7 A8 A9 A10 A11 A12 A13 A14 A15 A16 A17 fu e_x3 e_x4 := by
  induction fu with
  | zero => intro x3 x4 e_x3 e_x4 h q_x3 q_x4; exact absurd h Bool.false_ne_true
  | succ n ih =>
    intro x3 x4 e_x3 e_x4 h q_x3 q_x4
    subst q_x3; subst q_x4; have h : (zq_if (zq_le (nat_lit 5) x4)
        (zb_X_uncovered_70 kp kJ4 x1 x2 x3 A5)
        (zq_if (zq_eq x3 (nat_lit 0))
        (zb_X_uncovered_70 kp kJ4 x1 x2 x3 A5)
        (zq_if (zq_in x4 (nat_lit 5))
        (zq_fc (zq_get A5 (zq_cl x4)) (fun y1 => zb_X_isIn (fun r_9 => zq_if (zq_eq r_9 (nat_lit 0))
        (zq_fc (zq_add x4 (nat_lit 1)) (fun x4_11 => (zb_X_uncovered_14 kp kJ4 x1 x2 A5 n) (nat_lit 1) x4_11))
        (zq_if (zq_in x2 (nat_lit 5))
        (zq_if (zq_in x4 (nat_lit 5))
        (zq_if (zq_eq (zq_and (zq_get A5 (zq_cl x2)) (zq_xor (zq_get A5 (zq_cl x4)) (nat_lit 4294967295))) (nat_lit 0))
        (zq_fc (zq_add x4 (nat_lit 1)) (fun x4_15 => (zb_X_uncovered_14 kp kJ4 x1 x2 A5 n) (nat_lit 0) x4_15))
        (zq_fc (zq_add x4 (nat_lit 1)) (fun x4_16 => (zb_X_uncovered_14 kp kJ4 x1 x2 A5 n) (nat_lit 1) x4_16))) false) false)) y1 x2)) false))) = true := h
    exact zq_br h (zq_cle rfl rfl)
        (fun h => zs_X_uncovered_70 h rfl rfl rfl hp hJ4)
        (fun h => zq_br h (zq_ceq rfl rfl)
        (fun h => zs_X_uncovered_70 h rfl rfl rfl hp hJ4)
        (fun h => zq_vi h rfl (by decide) (fun h => have h := zq_fe h; zs_X_isIn h (zq_rd rfl) rfl (fun r_9 h => zq_br h (zq_ceq rfl rfl)
        (fun h => zq_ly h (zq_hadd rfl rfl) (fun x4_11 h => ih _ _ _ _ h rfl rfl))
        (fun h => zq_vi h rfl (by decide) (fun h => zq_vi h rfl (by decide) (fun h => zq_br h (zq_ceq (zq_hand (zq_rd rfl) (zq_hxor (zq_rd rfl) zq_m1)) rfl)
        (fun h => zq_ly h (zq_hadd rfl rfl) (fun x4_15 h => ih _ _ _ _ h rfl rfl))
        (fun h => zq_ly h (zq_hadd rfl rfl) (fun x4_16 h => ih _ _ _ _ h rfl rfl)))))))))
theorem zs_X_uncovered_14 {post : Int32 → Prop} {J4 : Int32 → Int32 → Prop} {kp : Nat → Bool} {kJ4 : Nat → Nat → Bool} {x1 : Nat} {x2 : Nat} {A5 : Nat} {x3 : Nat} {x4 : Nat} {S0 : Int32} {S1 : Int32} {S2 : Int32} {A1 : Nat → Int32} {A2 : Nat → Int32} {A3 : Nat → Int32} {A4 : Nat → Int32} {A6 : Nat → Int32} {A7 : Nat → Int32} {A8 : Nat → Int32} {A9 : Nat → Int32} {A10 : Nat → Int32} {A11 : Nat → Int32} {A12 : Nat → Int32} {A13 : Nat → Int32} {A14 : Nat → Int32} {A15 : Nat → Int32} {A16 : Nat → Int32} {A17 : Nat → Int32} {e_x1 : Int32} {e_x2 : Int32} {e_x3 : Int32} {e_x4 : Int32} {fu : Nat} (h : zb_X_uncovered_14 kp kJ4 x1 x2 A5 fu x3 x4 = true) (q_x1 : e_x1 = nI x1) (q_x2 : e_x2 = nI x2) (q_x3 : e_x3 = nI x3) (q_x4 : e_x4 = nI x4) (hp : ∀ r : Nat, kp r = true → post (nI r)) (hJ4 : ∀ y_x1 y_x2 : Nat, kJ4 y_x1 y_x2 = true → J4 (nI y_x1) (nI y_x2)) : wX_uncovered_14 post J4 e_x1 e_x2 S0 S1 S2 A1 A2 A3 A4 (zq_g A5) A6 A7 A8 A9 A10 A11 A12 A13 A14 A15 A16 A17 fu e_x3 e_x4 := by
  subst q_x1; subst q_x2; exact zr_X_uncovered_14 hp hJ4 fu _ _ _ _ h q_x3 q_x4
noncomputable def zb_X_uncovered_4 (kp : Nat → Bool) (A5 : Nat) : Nat → Nat → Nat → Bool := fun fu => @Nat.rec (fun _ => Nat → Nat → Bool) (fun _ _ => false) (fun _ ih => fun x1 x2 =>
        zq_if (zq_le (nat_lit 5) x2)
        (kp x1)
        (zb_X_uncovered_14 kp ih x1 x2 A5 40 (nat_lit 1) (nat_lit 0))) fu
theorem zr_X_uncovered_4 {post : Int32 → Prop} {kp : Nat → Bool} {A5 : Nat} {S0 : Int32} {S1 : Int32} {S2 : Int32} {A1 : Nat → Int32} {A2 : Nat → Int32} {A3 : Nat → Int32} {A4 : Nat → Int32} {A6 : Nat → Int32} {A7 : Nat → Int32} {A8 : Nat → Int32} {A9 : Nat → Int32} {A10 : Nat → Int32} {A11 : Nat → Int32} {A12 : Nat → Int32} {A13 : Nat → Int32} {A14 : Nat → Int32} {A15 : Nat → Int32} {A16 : Nat → Int32} {A17 : Nat → Int32} (hp : ∀ r : Nat, kp r = true → post (nI r)) (fu : Nat) : ∀ (x1 : Nat) (x2 : Nat) (e_x1 : Int32) (e_x2 : Int32), zb_X_uncovered_4 kp A5 fu x1 x2 = true → e_x1 = nI x1 → e_x2 = nI x2 → wX_uncovered_4 post S0 S1 S2 A1 A2 A3 A4 (zq_g A5) A6 A7 A8 A9 A10 A11 A12 A13 A14 A15 A16 A17 fu e_x1 e_x2 := by
  induction fu with
  | zero => intro x1 x2 e_x1 e_x2 h q_x1 q_x2; exact absurd h Bool.false_ne_true
  | succ n ih =>
    intro x1 x2 e_x1 e_x2 h q_x1 q_x2
    subst q_x1; subst q_x2; have h : (zq_if (zq_le (nat_lit 5) x2)
        (kp x1)
        (zb_X_uncovered_14 kp (zb_X_uncovered_4 kp A5 n) x1 x2 A5 40 (nat_lit 1) (nat_lit 0))) = true := h
    exact zq_br h (zq_cle rfl rfl)
        (fun h => hp _ h)
        (fun h => Exists.intro 40 (zs_X_uncovered_14 h rfl rfl rfl rfl hp (fun y0 y1 h => ih y0 y1 _ _ h rfl rfl)))
theorem zs_X_uncovered_4 {post : Int32 → Prop} {kp : Nat → Bool} {A5 : Nat} {x1 : Nat} {x2 : Nat} {S0 : Int32} {S1 : Int32} {S2 : Int32} {A1 : Nat → Int32} {A2 : Nat → Int32} {A3 : Nat → Int32} {A4 : Nat → Int32} {A6 : Nat → Int32} {A7 : Nat → Int32} {A8 : Nat → Int32} {A9 : Nat → Int32} {A10 : Nat → Int32} {A11 : Nat → Int32} {A12 : Nat → Int32} {A13 : Nat → Int32} {A14 : Nat → Int32} {A15 : Nat → Int32} {A16 : Nat → Int32} {A17 : Nat → Int32} {e_x1 : Int32} {e_x2 : Int32} {fu : Nat} (h : zb_X_uncovered_4 kp A5 fu x1 x2 = true) (q_x1 : e_x1 = nI x1) (q_x2 : e_x2 = nI x2) (hp : ∀ r : Nat, kp r = true → post (nI r)) : wX_uncovered_4 post S0 S1 S2 A1 A2 A3 A4 (zq_g A5) A6 A7 A8 A9 A10 A11 A12 A13 A14 A15 A16 A17 fu e_x1 e_x2 := by
  exact zr_X_uncovered_4 hp fu _ _ _ _ h q_x1 q_x2
noncomputable def zb_X_uncovered (kp : Nat → Bool) (A5 : Nat) : Bool :=
        zb_X_uncovered_4 kp A5 40 (nat_lit 0) (nat_lit 0)
theorem zs_X_uncovered {post : Int32 → Prop} {kp : Nat → Bool} {A5 : Nat} {S0 : Int32} {S1 : Int32} {S2 : Int32} {A1 : Nat → Int32} {A2 : Nat → Int32} {A3 : Nat → Int32} {A4 : Nat → Int32} {A6 : Nat → Int32} {A7 : Nat → Int32} {A8 : Nat → Int32} {A9 : Nat → Int32} {A10 : Nat → Int32} {A11 : Nat → Int32} {A12 : Nat → Int32} {A13 : Nat → Int32} {A14 : Nat → Int32} {A15 : Nat → Int32} {A16 : Nat → Int32} {A17 : Nat → Int32} (h : zb_X_uncovered kp A5 = true) (hp : ∀ r : Nat, kp r = true → post (nI r)) : wpX_uncovered post (S0, S1, S2, A1, A2, A3, A4, (zq_g A5), A6, A7, A8, A9, A10, A11, A12, A13, A14, A15, A16, A17) := by
  have h : (zb_X_uncovered_4 kp A5 40 (nat_lit 0) (nat_lit 0)) = true := h
  exact Exists.intro 40 (zs_X_uncovered_4 h rfl rfl hp)
noncomputable def zb_X_closeReaches_9 (kp : Nat → Bool) (kJ2 : Nat → Nat → Bool) (x1 : Nat) : Nat → Nat → Nat → Bool := fun fu => @Nat.rec (fun _ => Nat → Nat → Bool) (fun _ _ => false) (fun _ ih => fun x2 A9 =>
        zq_if (zq_le (nat_lit 5) x2)
        (zq_fc (zq_add x1 (nat_lit 1)) (fun x1_3 => kJ2 x1_3 A9))
        (zq_if (zq_in x2 (nat_lit 5))
        (zq_fc (zq_get A9 (zq_cl x2)) (fun y1 => zb_X_isIn (fun r_5 => zq_if (zq_eq r_5 (nat_lit 0))
        (zq_fc (zq_add x2 (nat_lit 1)) (fun x2_7 => ih x2_7 A9))
        (zq_if (zq_in x2 (nat_lit 5))
        (zq_if (zq_in x1 (nat_lit 5))
        (zq_if (zq_in x2 (nat_lit 5))
        (zq_fc (zq_set A9 (zq_cl x2) (zq_i8 (zq_or (zq_get A9 (zq_cl x2)) (zq_get A9 (zq_cl x1))))) (fun a9_11 => zq_fc (zq_add x2 (nat_lit 1)) (fun x2_12 => ih x2_12 a9_11))) false) false) false)) y1 x1)) false)) fu
theorem zr_X_closeReaches_9 {post : St2 → Prop} {J2 : Int32 → (Nat → Int32) → (Nat → Int32) → (Nat → Int32) → (Nat → Int32) → (Nat → Int32) → (Nat → Int32) → (Nat → Int32) → (Nat → Int32) → (Nat → Int32) → (Nat → Int32) → (Nat → Int32) → (Nat → Int32) → (Nat → Int32) → (Nat → Int32) → (Nat → Int32) → (Nat → Int32) → (Nat → Int32) → Prop} {kp : Nat → Bool} {kJ2 : Nat → Nat → Bool} {x1 : Nat} {S0 : Int32} {S1 : Int32} {S2 : Int32} {A1 : Nat → Int32} {A2 : Nat → Int32} {A3 : Nat → Int32} {A4 : Nat → Int32} {A5 : Nat → Int32} {A6 : Nat → Int32} {A7 : Nat → Int32} {A8 : Nat → Int32} {A10 : Nat → Int32} {A11 : Nat → Int32} {A12 : Nat → Int32} {A13 : Nat → Int32} {A14 : Nat → Int32} {A15 : Nat → Int32} {A16 : Nat → Int32} {A17 : Nat → Int32} (hp : ∀ w11 : Nat, kp w11 = true → post (S0, S1, S2, A1, A2, A3, A4, A5, A6, A7, A8, (zq_g w11), A10, A11, A12, A13, A14, A15, A16, A17)) (hJ2 : ∀ y_x1 v11 : Nat, kJ2 y_x1 v11 = true → J2 (nI y_x1) A1 A2 A3 A4 A5 A6 A7 A8 (zq_g v11) A10 A11 A12 A13 A14 A15 A16 A17) (fu : Nat) : ∀ (x2 : Nat) (A9 : Nat) (e_x2 : Int32), zb_X_closeReaches_9 kp kJ2 x1 fu x2 A9 = true → e_x2 = nI x2 → wX_closeReaches_9 post J2 (nI x1) S0 S1 S2 fu e_x2 A1 A2 A3 A4 A5 A6 A7 A8 (zq_g A9) A10 A11 A12 A13 A14 A15 A16 A17 := by
  induction fu with
  | zero => intro x2 A9 e_x2 h q_x2; exact absurd h Bool.false_ne_true
  | succ n ih =>
    intro x2 A9 e_x2 h q_x2
    subst q_x2; have h : (zq_if (zq_le (nat_lit 5) x2)
        (zq_fc (zq_add x1 (nat_lit 1)) (fun x1_3 => kJ2 x1_3 A9))
        (zq_if (zq_in x2 (nat_lit 5))
        (zq_fc (zq_get A9 (zq_cl x2)) (fun y1 => zb_X_isIn (fun r_5 => zq_if (zq_eq r_5 (nat_lit 0))
        (zq_fc (zq_add x2 (nat_lit 1)) (fun x2_7 => (zb_X_closeReaches_9 kp kJ2 x1 n) x2_7 A9))
        (zq_if (zq_in x2 (nat_lit 5))
        (zq_if (zq_in x1 (nat_lit 5))
        (zq_if (zq_in x2 (nat_lit 5))
        (zq_fc (zq_set A9 (zq_cl x2) (zq_i8 (zq_or (zq_get A9 (zq_cl x2)) (zq_get A9 (zq_cl x1))))) (fun a9_11 => zq_fc (zq_add x2 (nat_lit 1)) (fun x2_12 => (zb_X_closeReaches_9 kp kJ2 x1 n) x2_12 a9_11))) false) false) false)) y1 x1)) false)) = true := h
    exact zq_br h (zq_cle rfl rfl)
        (fun h => zq_ly h (zq_hadd rfl rfl) (fun x1_3 h => hJ2 _ _ h))
        (fun h => zq_vi h rfl (by decide) (fun h => have h := zq_fe h; zs_X_isIn h (zq_rd rfl) rfl (fun r_5 h => zq_br h (zq_ceq rfl rfl)
        (fun h => zq_ly h (zq_hadd rfl rfl) (fun x2_7 h => ih _ _ _ h rfl))
        (fun h => zq_vi h rfl (by decide) (fun h => zq_vi h rfl (by decide) (fun h => zq_vi h rfl (by decide) (fun h => zq_up h rfl (zq_hi8 (zq_hor (zq_rd rfl) (zq_rd rfl))) (fun a9_11 h => zq_ly h (zq_hadd rfl rfl) (fun x2_12 h => ih _ _ _ h rfl)))))))))
theorem zs_X_closeReaches_9 {post : St2 → Prop} {J2 : Int32 → (Nat → Int32) → (Nat → Int32) → (Nat → Int32) → (Nat → Int32) → (Nat → Int32) → (Nat → Int32) → (Nat → Int32) → (Nat → Int32) → (Nat → Int32) → (Nat → Int32) → (Nat → Int32) → (Nat → Int32) → (Nat → Int32) → (Nat → Int32) → (Nat → Int32) → (Nat → Int32) → (Nat → Int32) → Prop} {kp : Nat → Bool} {kJ2 : Nat → Nat → Bool} {x1 : Nat} {x2 : Nat} {A9 : Nat} {S0 : Int32} {S1 : Int32} {S2 : Int32} {A1 : Nat → Int32} {A2 : Nat → Int32} {A3 : Nat → Int32} {A4 : Nat → Int32} {A5 : Nat → Int32} {A6 : Nat → Int32} {A7 : Nat → Int32} {A8 : Nat → Int32} {A10 : Nat → Int32} {A11 : Nat → Int32} {A12 : Nat → Int32} {A13 : Nat → Int32} {A14 : Nat → Int32} {A15 : Nat → Int32} {A16 : Nat → Int32} {A17 : Nat → Int32} {e_x1 : Int32} {e_x2 : Int32} {fu : Nat} (h : zb_X_closeReaches_9 kp kJ2 x1 fu x2 A9 = true) (q_x1 : e_x1 = nI x1) (q_x2 : e_x2 = nI x2) (hp : ∀ w11 : Nat, kp w11 = true → post (S0, S1, S2, A1, A2, A3, A4, A5, A6, A7, A8, (zq_g w11), A10, A11, A12, A13, A14, A15, A16, A17)) (hJ2 : ∀ y_x1 v11 : Nat, kJ2 y_x1 v11 = true → J2 (nI y_x1) A1 A2 A3 A4 A5 A6 A7 A8 (zq_g v11) A10 A11 A12 A13 A14 A15 A16 A17) : wX_closeReaches_9 post J2 e_x1 S0 S1 S2 fu e_x2 A1 A2 A3 A4 A5 A6 A7 A8 (zq_g A9) A10 A11 A12 A13 A14 A15 A16 A17 := by
  subst q_x1; exact zr_X_closeReaches_9 hp hJ2 fu _ _ _ h q_x2
noncomputable def zb_X_closeReaches_2 (kp : Nat → Bool) : Nat → Nat → Nat → Bool := fun fu => @Nat.rec (fun _ => Nat → Nat → Bool) (fun _ _ => false) (fun _ ih => fun x1 A9 =>
        zq_if (zq_le (nat_lit 5) x1)
        (kp A9)
        (zb_X_closeReaches_9 kp ih x1 40 (nat_lit 0) A9)) fu
theorem zr_X_closeReaches_2 {post : St2 → Prop} {kp : Nat → Bool} {S0 : Int32} {S1 : Int32} {S2 : Int32} {A1 : Nat → Int32} {A2 : Nat → Int32} {A3 : Nat → Int32} {A4 : Nat → Int32} {A5 : Nat → Int32} {A6 : Nat → Int32} {A7 : Nat → Int32} {A8 : Nat → Int32} {A10 : Nat → Int32} {A11 : Nat → Int32} {A12 : Nat → Int32} {A13 : Nat → Int32} {A14 : Nat → Int32} {A15 : Nat → Int32} {A16 : Nat → Int32} {A17 : Nat → Int32} (hp : ∀ w11 : Nat, kp w11 = true → post (S0, S1, S2, A1, A2, A3, A4, A5, A6, A7, A8, (zq_g w11), A10, A11, A12, A13, A14, A15, A16, A17)) (fu : Nat) : ∀ (x1 : Nat) (A9 : Nat) (e_x1 : Int32), zb_X_closeReaches_2 kp fu x1 A9 = true → e_x1 = nI x1 → wX_closeReaches_2 post S0 S1 S2 fu e_x1 A1 A2 A3 A4 A5 A6 A7 A8 (zq_g A9) A10 A11 A12 A13 A14 A15 A16 A17 := by
  induction fu with
  | zero => intro x1 A9 e_x1 h q_x1; exact absurd h Bool.false_ne_true
  | succ n ih =>
    intro x1 A9 e_x1 h q_x1
    subst q_x1; have h : (zq_if (zq_le (nat_lit 5) x1)
        (kp A9)
        (zb_X_closeReaches_9 kp (zb_X_closeReaches_2 kp n) x1 40 (nat_lit 0) A9)) = true := h
    exact zq_br h (zq_cle rfl rfl)
        (fun h => hp _ h)
        (fun h => Exists.intro 40 (zs_X_closeReaches_9 h rfl rfl hp (fun y0 y1 h => ih y0 y1 _ h rfl)))
theorem zs_X_closeReaches_2 {post : St2 → Prop} {kp : Nat → Bool} {x1 : Nat} {A9 : Nat} {S0 : Int32} {S1 : Int32} {S2 : Int32} {A1 : Nat → Int32} {A2 : Nat → Int32} {A3 : Nat → Int32} {A4 : Nat → Int32} {A5 : Nat → Int32} {A6 : Nat → Int32} {A7 : Nat → Int32} {A8 : Nat → Int32} {A10 : Nat → Int32} {A11 : Nat → Int32} {A12 : Nat → Int32} {A13 : Nat → Int32} {A14 : Nat → Int32} {A15 : Nat → Int32} {A16 : Nat → Int32} {A17 : Nat → Int32} {e_x1 : Int32} {fu : Nat} (h : zb_X_closeReaches_2 kp fu x1 A9 = true) (q_x1 : e_x1 = nI x1) (hp : ∀ w11 : Nat, kp w11 = true → post (S0, S1, S2, A1, A2, A3, A4, A5, A6, A7, A8, (zq_g w11), A10, A11, A12, A13, A14, A15, A16, A17)) : wX_closeReaches_2 post S0 S1 S2 fu e_x1 A1 A2 A3 A4 A5 A6 A7 A8 (zq_g A9) A10 A11 A12 A13 A14 A15 A16 A17 := by
  exact zr_X_closeReaches_2 hp fu _ _ _ h q_x1
noncomputable def zb_X_closeReaches (kp : Nat → Bool) (A9 : Nat) : Bool :=
        zb_X_closeReaches_2 kp 40 (nat_lit 0) A9
theorem zs_X_closeReaches {post : St2 → Prop} {kp : Nat → Bool} {A9 : Nat} {S0 : Int32} {S1 : Int32} {S2 : Int32} {A1 : Nat → Int32} {A2 : Nat → Int32} {A3 : Nat → Int32} {A4 : Nat → Int32} {A5 : Nat → Int32} {A6 : Nat → Int32} {A7 : Nat → Int32} {A8 : Nat → Int32} {A10 : Nat → Int32} {A11 : Nat → Int32} {A12 : Nat → Int32} {A13 : Nat → Int32} {A14 : Nat → Int32} {A15 : Nat → Int32} {A16 : Nat → Int32} {A17 : Nat → Int32} (h : zb_X_closeReaches kp A9 = true) (hp : ∀ w11 : Nat, kp w11 = true → post (S0, S1, S2, A1, A2, A3, A4, A5, A6, A7, A8, (zq_g w11), A10, A11, A12, A13, A14, A15, A16, A17)) : wpX_closeReaches post (S0, S1, S2, A1, A2, A3, A4, A5, A6, A7, A8, (zq_g A9), A10, A11, A12, A13, A14, A15, A16, A17) := by
  have h : (zb_X_closeReaches_2 kp 40 (nat_lit 0) A9) = true := h
  exact Exists.intro 40 (zs_X_closeReaches_2 h rfl hp)
noncomputable def zb_X_unreturned_95 (kp : Nat → Nat → Bool) (kJ33 : Nat → Nat → Bool) (x1 : Nat) (x2 : Nat) (x3 : Nat) (A5 : Nat) (A9 : Nat) : Bool :=
        zq_if (zq_eq x3 (nat_lit 0))
        (zq_fc (zq_add x2 (nat_lit 1)) (fun x2_60 => kJ33 x1 x2_60))
        (zq_fc (zq_or x1 (zq_shl (nat_lit 1) x2)) (fun x1_61 => zq_fc (zq_add x2 (nat_lit 1)) (fun x2_62 => kJ33 x1_61 x2_62)))
theorem zs_X_unreturned_95 {post : Int32 → St2 → Prop} {J33 : Int32 → Int32 → Prop} {kp : Nat → Nat → Bool} {kJ33 : Nat → Nat → Bool} {x1 : Nat} {x2 : Nat} {x3 : Nat} {A5 : Nat} {A9 : Nat} {S0 : Int32} {S1 : Int32} {S2 : Int32} {A1 : Nat → Int32} {A2 : Nat → Int32} {A3 : Nat → Int32} {A4 : Nat → Int32} {A6 : Nat → Int32} {A7 : Nat → Int32} {A8 : Nat → Int32} {A10 : Nat → Int32} {A11 : Nat → Int32} {A12 : Nat → Int32} {A13 : Nat → Int32} {A14 : Nat → Int32} {A15 : Nat → Int32} {A16 : Nat → Int32} {A17 : Nat → Int32} {e_x1 : Int32} {e_x2 : Int32} {e_x3 : Int32} (h : zb_X_unreturned_95 kp kJ33 x1 x2 x3 A5 A9 = true) (q_x1 : e_x1 = nI x1) (q_x2 : e_x2 = nI x2) (q_x3 : e_x3 = nI x3) (hp : ∀ r w11 : Nat, kp r w11 = true → post (nI r) (S0, S1, S2, A1, A2, A3, A4, (zq_g A5), A6, A7, A8, (zq_g w11), A10, A11, A12, A13, A14, A15, A16, A17)) (hJ33 : ∀ y_x1 y_x2 : Nat, kJ33 y_x1 y_x2 = true → J33 (nI y_x1) (nI y_x2)) : wX_unreturned_95 post J33 e_x1 e_x2 e_x3 S0 S1 S2 A1 A2 A3 A4 (zq_g A5) A6 A7 A8 (zq_g A9) A10 A11 A12 A13 A14 A15 A16 A17 := by
  subst q_x1; subst q_x2; subst q_x3; have h : (zq_if (zq_eq x3 (nat_lit 0))
        (zq_fc (zq_add x2 (nat_lit 1)) (fun x2_60 => kJ33 x1 x2_60))
        (zq_fc (zq_or x1 (zq_shl (nat_lit 1) x2)) (fun x1_61 => zq_fc (zq_add x2 (nat_lit 1)) (fun x2_62 => kJ33 x1_61 x2_62)))) = true := h
  exact zq_br h (zq_ceq rfl rfl)
        (fun h => zq_ly h (zq_hadd rfl rfl) (fun x2_60 h => hJ33 _ _ h))
        (fun h => zq_ly h (zq_hor rfl (zq_hshl rfl rfl)) (fun x1_61 h => zq_ly h (zq_hadd rfl rfl) (fun x2_62 h => hJ33 _ _ h)))
noncomputable def zb_X_unreturned_43 (kp : Nat → Nat → Bool) (kJ33 : Nat → Nat → Bool) (x1 : Nat) (x2 : Nat) (A5 : Nat) (A9 : Nat) : Nat → Nat → Nat → Bool := fun fu => @Nat.rec (fun _ => Nat → Nat → Bool) (fun _ _ => false) (fun _ ih => fun x3 x4 =>
        zq_if (zq_le (nat_lit 5) x4)
        (zb_X_unreturned_95 kp kJ33 x1 x2 x3 A5 A9)
        (zq_if (zq_eq x3 (nat_lit 0))
        (zb_X_unreturned_95 kp kJ33 x1 x2 x3 A5 A9)
        (zq_if (zq_in x4 (nat_lit 5))
        (zq_fc (zq_get A9 (zq_cl x4)) (fun y2 => zb_X_isIn (fun r_65 => zq_if (zq_eq r_65 (nat_lit 0))
        (zq_fc (zq_add x4 (nat_lit 1)) (fun x4_67 => ih (nat_lit 1) x4_67))
        (zq_if (zq_in x2 (nat_lit 5))
        (zq_fc (zq_get A9 (zq_cl x2)) (fun y1 => zb_X_isIn (fun r_69 => zq_if (zq_eq r_69 (nat_lit 0))
        (zq_fc (zq_add x4 (nat_lit 1)) (fun x4_71 => ih (nat_lit 0) x4_71))
        (zq_fc (zq_add x4 (nat_lit 1)) (fun x4_72 => ih (nat_lit 1) x4_72))) y1 x4)) false)) y2 x2)) false))) fu
theorem zr_X_unreturned_43 {post : Int32 → St2 → Prop} {J33 : Int32 → Int32 → Prop} {kp : Nat → Nat → Bool} {kJ33 : Nat → Nat → Bool} {x1 : Nat} {x2 : Nat} {A5 : Nat} {A9 : Nat} {S0 : Int32} {S1 : Int32} {S2 : Int32} {A1 : Nat → Int32} {A2 : Nat → Int32} {A3 : Nat → Int32} {A4 : Nat → Int32} {A6 : Nat → Int32} {A7 : Nat → Int32} {A8 : Nat → Int32} {A10 : Nat → Int32} {A11 : Nat → Int32} {A12 : Nat → Int32} {A13 : Nat → Int32} {A14 : Nat → Int32} {A15 : Nat → Int32} {A16 : Nat → Int32} {A17 : Nat → Int32} (hp : ∀ r w11 : Nat, kp r w11 = true → post (nI r) (S0, S1, S2, A1, A2, A3, A4, (zq_g A5), A6, A7, A8, (zq_g w11), A10, A11, A12, A13, A14, A15, A16, A17)) (hJ33 : ∀ y_x1 y_x2 : Nat, kJ33 y_x1 y_x2 = true → J33 (nI y_x1) (nI y_x2)) (fu : Nat) : ∀ (x3 : Nat) (x4 : Nat) (e_x3 : Int32) (e_x4 : Int32), zb_X_unreturned_43 kp kJ33 x1 x2 A5 A9 fu x3 x4 = true → e_x3 = nI x3 → e_x4 = nI x4 → wX_unreturned_43 post J33 (nI x1) (nI x2) S0 S1 S2 A1 A2 A3 A4 (zq_g A5) A6 A7 A8 (zq_g A9) A10 A11 A12 A13 A14 A15 A16 A17 fu e_x3 e_x4 := by
  induction fu with
  | zero => intro x3 x4 e_x3 e_x4 h q_x3 q_x4; exact absurd h Bool.false_ne_true
  | succ n ih =>
    intro x3 x4 e_x3 e_x4 h q_x3 q_x4
    subst q_x3; subst q_x4; have h : (zq_if (zq_le (nat_lit 5) x4)
        (zb_X_unreturned_95 kp kJ33 x1 x2 x3 A5 A9)
        (zq_if (zq_eq x3 (nat_lit 0))
        (zb_X_unreturned_95 kp kJ33 x1 x2 x3 A5 A9)
        (zq_if (zq_in x4 (nat_lit 5))
        (zq_fc (zq_get A9 (zq_cl x4)) (fun y2 => zb_X_isIn (fun r_65 => zq_if (zq_eq r_65 (nat_lit 0))
        (zq_fc (zq_add x4 (nat_lit 1)) (fun x4_67 => (zb_X_unreturned_43 kp kJ33 x1 x2 A5 A9 n) (nat_lit 1) x4_67))
        (zq_if (zq_in x2 (nat_lit 5))
        (zq_fc (zq_get A9 (zq_cl x2)) (fun y1 => zb_X_isIn (fun r_69 => zq_if (zq_eq r_69 (nat_lit 0))
        (zq_fc (zq_add x4 (nat_lit 1)) (fun x4_71 => (zb_X_unreturned_43 kp kJ33 x1 x2 A5 A9 n) (nat_lit 0) x4_71))
        (zq_fc (zq_add x4 (nat_lit 1)) (fun x4_72 => (zb_X_unreturned_43 kp kJ33 x1 x2 A5 A9 n) (nat_lit 1) x4_72))) y1 x4)) false)) y2 x2)) false))) = true := h
    exact zq_br h (zq_cle rfl rfl)
        (fun h => zs_X_unreturned_95 h rfl rfl rfl hp hJ33)
        (fun h => zq_br h (zq_ceq rfl rfl)
        (fun h => zs_X_unreturned_95 h rfl rfl rfl hp hJ33)
        (fun h => zq_vi h rfl (by decide) (fun h => have h := zq_fe h; zs_X_isIn h (zq_rd rfl) rfl (fun r_65 h => zq_br h (zq_ceq rfl rfl)
        (fun h => zq_ly h (zq_hadd rfl rfl) (fun x4_67 h => ih _ _ _ _ h rfl rfl))
        (fun h => zq_vi h rfl (by decide) (fun h => have h := zq_fe h; zs_X_isIn h (zq_rd rfl) rfl (fun r_69 h => zq_br h (zq_ceq rfl rfl)
        (fun h => zq_ly h (zq_hadd rfl rfl) (fun x4_71 h => ih _ _ _ _ h rfl rfl))
        (fun h => zq_ly h (zq_hadd rfl rfl) (fun x4_72 h => ih _ _ _ _ h rfl rfl)))))))))
theorem zs_X_unreturned_43 {post : Int32 → St2 → Prop} {J33 : Int32 → Int32 → Prop} {kp : Nat → Nat → Bool} {kJ33 : Nat → Nat → Bool} {x1 : Nat} {x2 : Nat} {A5 : Nat} {A9 : Nat} {x3 : Nat} {x4 : Nat} {S0 : Int32} {S1 : Int32} {S2 : Int32} {A1 : Nat → Int32} {A2 : Nat → Int32} {A3 : Nat → Int32} {A4 : Nat → Int32} {A6 : Nat → Int32} {A7 : Nat → Int32} {A8 : Nat → Int32} {A10 : Nat → Int32} {A11 : Nat → Int32} {A12 : Nat → Int32} {A13 : Nat → Int32} {A14 : Nat → Int32} {A15 : Nat → Int32} {A16 : Nat → Int32} {A17 : Nat → Int32} {e_x1 : Int32} {e_x2 : Int32} {e_x3 : Int32} {e_x4 : Int32} {fu : Nat} (h : zb_X_unreturned_43 kp kJ33 x1 x2 A5 A9 fu x3 x4 = true) (q_x1 : e_x1 = nI x1) (q_x2 : e_x2 = nI x2) (q_x3 : e_x3 = nI x3) (q_x4 : e_x4 = nI x4) (hp : ∀ r w11 : Nat, kp r w11 = true → post (nI r) (S0, S1, S2, A1, A2, A3, A4, (zq_g A5), A6, A7, A8, (zq_g w11), A10, A11, A12, A13, A14, A15, A16, A17)) (hJ33 : ∀ y_x1 y_x2 : Nat, kJ33 y_x1 y_x2 = true → J33 (nI y_x1) (nI y_x2)) : wX_unreturned_43 post J33 e_x1 e_x2 S0 S1 S2 A1 A2 A3 A4 (zq_g A5) A6 A7 A8 (zq_g A9) A10 A11 A12 A13 A14 A15 A16 A17 fu e_x3 e_x4 := by
  subst q_x1; subst q_x2; exact zr_X_unreturned_43 hp hJ33 fu _ _ _ _ h q_x3 q_x4
noncomputable def zb_X_unreturned_33 (kp : Nat → Nat → Bool) (A5 : Nat) (A9 : Nat) : Nat → Nat → Nat → Bool := fun fu => @Nat.rec (fun _ => Nat → Nat → Bool) (fun _ _ => false) (fun _ ih => fun x1 x2 =>
        zq_if (zq_le (nat_lit 5) x2)
        (kp x1 A9)
        (zb_X_unreturned_43 kp ih x1 x2 A5 A9 40 (nat_lit 1) (nat_lit 0))) fu
theorem zr_X_unreturned_33 {post : Int32 → St2 → Prop} {kp : Nat → Nat → Bool} {A5 : Nat} {A9 : Nat} {S0 : Int32} {S1 : Int32} {S2 : Int32} {A1 : Nat → Int32} {A2 : Nat → Int32} {A3 : Nat → Int32} {A4 : Nat → Int32} {A6 : Nat → Int32} {A7 : Nat → Int32} {A8 : Nat → Int32} {A10 : Nat → Int32} {A11 : Nat → Int32} {A12 : Nat → Int32} {A13 : Nat → Int32} {A14 : Nat → Int32} {A15 : Nat → Int32} {A16 : Nat → Int32} {A17 : Nat → Int32} (hp : ∀ r w11 : Nat, kp r w11 = true → post (nI r) (S0, S1, S2, A1, A2, A3, A4, (zq_g A5), A6, A7, A8, (zq_g w11), A10, A11, A12, A13, A14, A15, A16, A17)) (fu : Nat) : ∀ (x1 : Nat) (x2 : Nat) (e_x1 : Int32) (e_x2 : Int32), zb_X_unreturned_33 kp A5 A9 fu x1 x2 = true → e_x1 = nI x1 → e_x2 = nI x2 → wX_unreturned_33 post S0 S1 S2 A1 A2 A3 A4 (zq_g A5) A6 A7 A8 (zq_g A9) A10 A11 A12 A13 A14 A15 A16 A17 fu e_x1 e_x2 := by
  induction fu with
  | zero => intro x1 x2 e_x1 e_x2 h q_x1 q_x2; exact absurd h Bool.false_ne_true
  | succ n ih =>
    intro x1 x2 e_x1 e_x2 h q_x1 q_x2
    subst q_x1; subst q_x2; have h : (zq_if (zq_le (nat_lit 5) x2)
        (kp x1 A9)
        (zb_X_unreturned_43 kp (zb_X_unreturned_33 kp A5 A9 n) x1 x2 A5 A9 40 (nat_lit 1) (nat_lit 0))) = true := h
    exact zq_br h (zq_cle rfl rfl)
        (fun h => hp _ _ h)
        (fun h => Exists.intro 40 (zs_X_unreturned_43 h rfl rfl rfl rfl hp (fun y0 y1 h => ih y0 y1 _ _ h rfl rfl)))
theorem zs_X_unreturned_33 {post : Int32 → St2 → Prop} {kp : Nat → Nat → Bool} {A5 : Nat} {A9 : Nat} {x1 : Nat} {x2 : Nat} {S0 : Int32} {S1 : Int32} {S2 : Int32} {A1 : Nat → Int32} {A2 : Nat → Int32} {A3 : Nat → Int32} {A4 : Nat → Int32} {A6 : Nat → Int32} {A7 : Nat → Int32} {A8 : Nat → Int32} {A10 : Nat → Int32} {A11 : Nat → Int32} {A12 : Nat → Int32} {A13 : Nat → Int32} {A14 : Nat → Int32} {A15 : Nat → Int32} {A16 : Nat → Int32} {A17 : Nat → Int32} {e_x1 : Int32} {e_x2 : Int32} {fu : Nat} (h : zb_X_unreturned_33 kp A5 A9 fu x1 x2 = true) (q_x1 : e_x1 = nI x1) (q_x2 : e_x2 = nI x2) (hp : ∀ r w11 : Nat, kp r w11 = true → post (nI r) (S0, S1, S2, A1, A2, A3, A4, (zq_g A5), A6, A7, A8, (zq_g w11), A10, A11, A12, A13, A14, A15, A16, A17)) : wX_unreturned_33 post S0 S1 S2 A1 A2 A3 A4 (zq_g A5) A6 A7 A8 (zq_g A9) A10 A11 A12 A13 A14 A15 A16 A17 fu e_x1 e_x2 := by
  exact zr_X_unreturned_33 hp fu _ _ _ _ h q_x1 q_x2
noncomputable def zb_X_unreturned_2 (kp : Nat → Nat → Bool) (A5 : Nat) : Nat → Nat → Nat → Bool := fun fu => @Nat.rec (fun _ => Nat → Nat → Bool) (fun _ _ => false) (fun _ ih => fun x1 A9 =>
        zq_if (zq_le (nat_lit 5) x1)
        (zb_X_closeReaches (fun am269_32 => zb_X_unreturned_33 kp A5 am269_32 40 (nat_lit 0) (nat_lit 0)) A9)
        (zq_if (zq_in x1 (nat_lit 5))
        (zq_if (zq_in x1 (nat_lit 5))
        (zq_fc (zq_set A9 (zq_cl x1) (zq_i8 (zq_get A5 (zq_cl x1)))) (fun a9_75 => zq_fc (zq_add x1 (nat_lit 1)) (fun x1_76 => ih x1_76 a9_75))) false) false)) fu
theorem zr_X_unreturned_2 {post : Int32 → St2 → Prop} {kp : Nat → Nat → Bool} {A5 : Nat} {S0 : Int32} {S1 : Int32} {S2 : Int32} {A1 : Nat → Int32} {A2 : Nat → Int32} {A3 : Nat → Int32} {A4 : Nat → Int32} {A6 : Nat → Int32} {A7 : Nat → Int32} {A8 : Nat → Int32} {A10 : Nat → Int32} {A11 : Nat → Int32} {A12 : Nat → Int32} {A13 : Nat → Int32} {A14 : Nat → Int32} {A15 : Nat → Int32} {A16 : Nat → Int32} {A17 : Nat → Int32} (hp : ∀ r w11 : Nat, kp r w11 = true → post (nI r) (S0, S1, S2, A1, A2, A3, A4, (zq_g A5), A6, A7, A8, (zq_g w11), A10, A11, A12, A13, A14, A15, A16, A17)) (fu : Nat) : ∀ (x1 : Nat) (A9 : Nat) (e_x1 : Int32), zb_X_unreturned_2 kp A5 fu x1 A9 = true → e_x1 = nI x1 → wX_unreturned_2 post S0 S1 S2 fu e_x1 A1 A2 A3 A4 (zq_g A5) A6 A7 A8 (zq_g A9) A10 A11 A12 A13 A14 A15 A16 A17 := by
  induction fu with
  | zero => intro x1 A9 e_x1 h q_x1; exact absurd h Bool.false_ne_true
  | succ n ih =>
    intro x1 A9 e_x1 h q_x1
    subst q_x1; have h : (zq_if (zq_le (nat_lit 5) x1)
        (zb_X_closeReaches (fun am269_32 => zb_X_unreturned_33 kp A5 am269_32 40 (nat_lit 0) (nat_lit 0)) A9)
        (zq_if (zq_in x1 (nat_lit 5))
        (zq_if (zq_in x1 (nat_lit 5))
        (zq_fc (zq_set A9 (zq_cl x1) (zq_i8 (zq_get A5 (zq_cl x1)))) (fun a9_75 => zq_fc (zq_add x1 (nat_lit 1)) (fun x1_76 => (zb_X_unreturned_2 kp A5 n) x1_76 a9_75))) false) false)) = true := h
    exact zq_br h (zq_cle rfl rfl)
        (fun h => zs_X_closeReaches h (fun am269_32 h => Exists.intro 40 (zs_X_unreturned_33 h rfl rfl hp)))
        (fun h => zq_vi h rfl (by decide) (fun h => zq_vi h rfl (by decide) (fun h => zq_up h rfl (zq_hnb (zq_rd rfl)) (fun a9_75 h => zq_ly h (zq_hadd rfl rfl) (fun x1_76 h => ih _ _ _ h rfl)))))
theorem zs_X_unreturned_2 {post : Int32 → St2 → Prop} {kp : Nat → Nat → Bool} {A5 : Nat} {x1 : Nat} {A9 : Nat} {S0 : Int32} {S1 : Int32} {S2 : Int32} {A1 : Nat → Int32} {A2 : Nat → Int32} {A3 : Nat → Int32} {A4 : Nat → Int32} {A6 : Nat → Int32} {A7 : Nat → Int32} {A8 : Nat → Int32} {A10 : Nat → Int32} {A11 : Nat → Int32} {A12 : Nat → Int32} {A13 : Nat → Int32} {A14 : Nat → Int32} {A15 : Nat → Int32} {A16 : Nat → Int32} {A17 : Nat → Int32} {e_x1 : Int32} {fu : Nat} (h : zb_X_unreturned_2 kp A5 fu x1 A9 = true) (q_x1 : e_x1 = nI x1) (hp : ∀ r w11 : Nat, kp r w11 = true → post (nI r) (S0, S1, S2, A1, A2, A3, A4, (zq_g A5), A6, A7, A8, (zq_g w11), A10, A11, A12, A13, A14, A15, A16, A17)) : wX_unreturned_2 post S0 S1 S2 fu e_x1 A1 A2 A3 A4 (zq_g A5) A6 A7 A8 (zq_g A9) A10 A11 A12 A13 A14 A15 A16 A17 := by
  exact zr_X_unreturned_2 hp fu _ _ _ h q_x1
noncomputable def zb_X_unreturned (kp : Nat → Nat → Bool) (A5 : Nat) (A9 : Nat) : Bool :=
        zb_X_unreturned_2 kp A5 40 (nat_lit 0) A9
theorem zs_X_unreturned {post : Int32 → St2 → Prop} {kp : Nat → Nat → Bool} {A5 : Nat} {A9 : Nat} {S0 : Int32} {S1 : Int32} {S2 : Int32} {A1 : Nat → Int32} {A2 : Nat → Int32} {A3 : Nat → Int32} {A4 : Nat → Int32} {A6 : Nat → Int32} {A7 : Nat → Int32} {A8 : Nat → Int32} {A10 : Nat → Int32} {A11 : Nat → Int32} {A12 : Nat → Int32} {A13 : Nat → Int32} {A14 : Nat → Int32} {A15 : Nat → Int32} {A16 : Nat → Int32} {A17 : Nat → Int32} (h : zb_X_unreturned kp A5 A9 = true) (hp : ∀ r w11 : Nat, kp r w11 = true → post (nI r) (S0, S1, S2, A1, A2, A3, A4, (zq_g A5), A6, A7, A8, (zq_g w11), A10, A11, A12, A13, A14, A15, A16, A17)) : wpX_unreturned post (S0, S1, S2, A1, A2, A3, A4, (zq_g A5), A6, A7, A8, (zq_g A9), A10, A11, A12, A13, A14, A15, A16, A17) := by
  have h : (zb_X_unreturned_2 kp A5 40 (nat_lit 0) A9) = true := h
  exact Exists.intro 40 (zs_X_unreturned_2 h rfl hp)
noncomputable def zb_X_smallestSet_79 (kp : Nat → Bool) (kJ5 : Nat → Nat → Bool) (x1 : Nat) (x2 : Nat) (x3 : Nat) (A5 : Nat) : Bool :=
        zq_if (zq_eq x3 (nat_lit 0))
        (zq_fc (zq_add x2 (nat_lit 1)) (fun x2_7 => kJ5 x1 x2_7))
        (zq_fc (zq_add x2 (nat_lit 1)) (fun x2_8 => kJ5 x2 x2_8))
theorem zs_X_smallestSet_79 {post : Int32 → Prop} {J5 : Int32 → Int32 → Prop} {kp : Nat → Bool} {kJ5 : Nat → Nat → Bool} {x1 : Nat} {x2 : Nat} {x3 : Nat} {A5 : Nat} {S0 : Int32} {S1 : Int32} {S2 : Int32} {A1 : Nat → Int32} {A2 : Nat → Int32} {A3 : Nat → Int32} {A4 : Nat → Int32} {A6 : Nat → Int32} {A7 : Nat → Int32} {A8 : Nat → Int32} {A9 : Nat → Int32} {A10 : Nat → Int32} {A11 : Nat → Int32} {A12 : Nat → Int32} {A13 : Nat → Int32} {A14 : Nat → Int32} {A15 : Nat → Int32} {A16 : Nat → Int32} {A17 : Nat → Int32} {e_x1 : Int32} {e_x2 : Int32} {e_x3 : Int32} (h : zb_X_smallestSet_79 kp kJ5 x1 x2 x3 A5 = true) (q_x1 : e_x1 = nI x1) (q_x2 : e_x2 = nI x2) (q_x3 : e_x3 = nI x3) (hp : ∀ r : Nat, kp r = true → post (nI r)) (hJ5 : ∀ y_x1 y_x2 : Nat, kJ5 y_x1 y_x2 = true → J5 (nI y_x1) (nI y_x2)) : wX_smallestSet_79 post J5 e_x1 e_x2 e_x3 S0 S1 S2 A1 A2 A3 A4 (zq_g A5) A6 A7 A8 A9 A10 A11 A12 A13 A14 A15 A16 A17 := by
  subst q_x1; subst q_x2; subst q_x3; have h : (zq_if (zq_eq x3 (nat_lit 0))
        (zq_fc (zq_add x2 (nat_lit 1)) (fun x2_7 => kJ5 x1 x2_7))
        (zq_fc (zq_add x2 (nat_lit 1)) (fun x2_8 => kJ5 x2 x2_8))) = true := h
  exact zq_br h (zq_ceq rfl rfl)
        (fun h => zq_ly h (zq_hadd rfl rfl) (fun x2_7 h => hJ5 _ _ h))
        (fun h => zq_ly h (zq_hadd rfl rfl) (fun x2_8 h => hJ5 _ _ h))
noncomputable def zb_X_smallestSet_33 (kp : Nat → Bool) (kJ5 : Nat → Nat → Bool) (x1 : Nat) (x2 : Nat) (A5 : Nat) : Nat → Nat → Nat → Bool := fun fu => @Nat.rec (fun _ => Nat → Nat → Bool) (fun _ _ => false) (fun _ ih => fun x3 x4 =>
        zq_if (zq_le (nat_lit 5) x4)
        (zb_X_smallestSet_79 kp kJ5 x1 x2 x3 A5)
        (zq_if (zq_eq x3 (nat_lit 0))
        (zb_X_smallestSet_79 kp kJ5 x1 x2 x3 A5)
        (zb_X_isIn (fun r_10 => zq_if (zq_eq r_10 (nat_lit 0))
        (zq_fc (zq_add x4 (nat_lit 1)) (fun x4_12 => ih (nat_lit 1) x4_12))
        (zq_if (zq_in x4 (nat_lit 5))
        (zq_if (zq_eq (zq_or (zq_get A5 (zq_cl x4)) x2) (nat_lit 31))
        (zq_fc (zq_add x4 (nat_lit 1)) (fun x4_16 => ih (nat_lit 1) x4_16))
        (zq_fc (zq_add x4 (nat_lit 1)) (fun x4_15 => ih (nat_lit 0) x4_15))) false)) x2 x4))) fu
theorem zr_X_smallestSet_33 {post : Int32 → Prop} {J5 : Int32 → Int32 → Prop} {kp : Nat → Bool} {kJ5 : Nat → Nat → Bool} {x1 : Nat} {x2 : Nat} {A5 : Nat} {S0 : Int32} {S1 : Int32} {S2 : Int32} {A1 : Nat → Int32} {A2 : Nat → Int32} {A3 : Nat → Int32} {A4 : Nat → Int32} {A6 : Nat → Int32} {A7 : Nat → Int32} {A8 : Nat → Int32} {A9 : Nat → Int32} {A10 : Nat → Int32} {A11 : Nat → Int32} {A12 : Nat → Int32} {A13 : Nat → Int32} {A14 : Nat → Int32} {A15 : Nat → Int32} {A16 : Nat → Int32} {A17 : Nat → Int32} (hp : ∀ r : Nat, kp r = true → post (nI r)) (hJ5 : ∀ y_x1 y_x2 : Nat, kJ5 y_x1 y_x2 = true → J5 (nI y_x1) (nI y_x2)) (fu : Nat) : ∀ (x3 : Nat) (x4 : Nat) (e_x3 : Int32) (e_x4 : Int32), zb_X_smallestSet_33 kp kJ5 x1 x2 A5 fu x3 x4 = true → e_x3 = nI x3 → e_x4 = nI x4 → wX_smallestSet_33 post J5 (nI x1) (nI x2) S0 S1 S2 A1 A2 A3 A4 (zq_g A5) A6 A7 A8 A9 A10 A11 A12 A13 A14 A15 A16 A17 fu e_x3 e_x4 := by
  induction fu with
  | zero => intro x3 x4 e_x3 e_x4 h q_x3 q_x4; exact absurd h Bool.false_ne_true
  | succ n ih =>
    intro x3 x4 e_x3 e_x4 h q_x3 q_x4
    subst q_x3; subst q_x4; have h : (zq_if (zq_le (nat_lit 5) x4)
        (zb_X_smallestSet_79 kp kJ5 x1 x2 x3 A5)
        (zq_if (zq_eq x3 (nat_lit 0))
        (zb_X_smallestSet_79 kp kJ5 x1 x2 x3 A5)
        (zb_X_isIn (fun r_10 => zq_if (zq_eq r_10 (nat_lit 0))
        (zq_fc (zq_add x4 (nat_lit 1)) (fun x4_12 => (zb_X_smallestSet_33 kp kJ5 x1 x2 A5 n) (nat_lit 1) x4_12))
        (zq_if (zq_in x4 (nat_lit 5))
        (zq_if (zq_eq (zq_or (zq_get A5 (zq_cl x4)) x2) (nat_lit 31))
        (zq_fc (zq_add x4 (nat_lit 1)) (fun x4_16 => (zb_X_smallestSet_33 kp kJ5 x1 x2 A5 n) (nat_lit 1) x4_16))
        (zq_fc (zq_add x4 (nat_lit 1)) (fun x4_15 => (zb_X_smallestSet_33 kp kJ5 x1 x2 A5 n) (nat_lit 0) x4_15))) false)) x2 x4))) = true := h
    exact zq_br h (zq_cle rfl rfl)
        (fun h => zs_X_smallestSet_79 h rfl rfl rfl hp hJ5)
        (fun h => zq_br h (zq_ceq rfl rfl)
        (fun h => zs_X_smallestSet_79 h rfl rfl rfl hp hJ5)
        (fun h => zs_X_isIn h rfl rfl (fun r_10 h => zq_br h (zq_ceq rfl rfl)
        (fun h => zq_ly h (zq_hadd rfl rfl) (fun x4_12 h => ih _ _ _ _ h rfl rfl))
        (fun h => zq_vi h rfl (by decide) (fun h => zq_br h (zq_ceq (zq_hor (zq_rd rfl) rfl) rfl)
        (fun h => zq_ly h (zq_hadd rfl rfl) (fun x4_16 h => ih _ _ _ _ h rfl rfl))
        (fun h => zq_ly h (zq_hadd rfl rfl) (fun x4_15 h => ih _ _ _ _ h rfl rfl)))))))
theorem zs_X_smallestSet_33 {post : Int32 → Prop} {J5 : Int32 → Int32 → Prop} {kp : Nat → Bool} {kJ5 : Nat → Nat → Bool} {x1 : Nat} {x2 : Nat} {A5 : Nat} {x3 : Nat} {x4 : Nat} {S0 : Int32} {S1 : Int32} {S2 : Int32} {A1 : Nat → Int32} {A2 : Nat → Int32} {A3 : Nat → Int32} {A4 : Nat → Int32} {A6 : Nat → Int32} {A7 : Nat → Int32} {A8 : Nat → Int32} {A9 : Nat → Int32} {A10 : Nat → Int32} {A11 : Nat → Int32} {A12 : Nat → Int32} {A13 : Nat → Int32} {A14 : Nat → Int32} {A15 : Nat → Int32} {A16 : Nat → Int32} {A17 : Nat → Int32} {e_x1 : Int32} {e_x2 : Int32} {e_x3 : Int32} {e_x4 : Int32} {fu : Nat} (h : zb_X_smallestSet_33 kp kJ5 x1 x2 A5 fu x3 x4 = true) (q_x1 : e_x1 = nI x1) (q_x2 : e_x2 = nI x2) (q_x3 : e_x3 = nI x3) (q_x4 : e_x4 = nI x4) (hp : ∀ r : Nat, kp r = true → post (nI r)) (hJ5 : ∀ y_x1 y_x2 : Nat, kJ5 y_x1 y_x2 = true → J5 (nI y_x1) (nI y_x2)) : wX_smallestSet_33 post J5 e_x1 e_x2 S0 S1 S2 A1 A2 A3 A4 (zq_g A5) A6 A7 A8 A9 A10 A11 A12 A13 A14 A15 A16 A17 fu e_x3 e_x4 := by
  subst q_x1; subst q_x2; exact zr_X_smallestSet_33 hp hJ5 fu _ _ _ _ h q_x3 q_x4
noncomputable def zb_X_smallestSet_5 (kp : Nat → Bool) (A5 : Nat) : Nat → Nat → Nat → Bool := fun fu => @Nat.rec (fun _ => Nat → Nat → Bool) (fun _ _ => false) (fun _ ih => fun x1 x2 =>
        zq_if (zq_le (nat_lit 31) x2)
        (kp x1)
        (zb_X_onesIn (fun r_2 => zb_X_onesIn (fun r_3 => zq_if (zq_le r_3 r_2)
        (zb_X_smallestSet_33 kp ih x1 x2 A5 40 (nat_lit 0) (nat_lit 0))
        (zb_X_smallestSet_33 kp ih x1 x2 A5 40 (nat_lit 1) (nat_lit 0))) x1) x2)) fu
theorem zr_X_smallestSet_5 {post : Int32 → Prop} {kp : Nat → Bool} {A5 : Nat} {S0 : Int32} {S1 : Int32} {S2 : Int32} {A1 : Nat → Int32} {A2 : Nat → Int32} {A3 : Nat → Int32} {A4 : Nat → Int32} {A6 : Nat → Int32} {A7 : Nat → Int32} {A8 : Nat → Int32} {A9 : Nat → Int32} {A10 : Nat → Int32} {A11 : Nat → Int32} {A12 : Nat → Int32} {A13 : Nat → Int32} {A14 : Nat → Int32} {A15 : Nat → Int32} {A16 : Nat → Int32} {A17 : Nat → Int32} (hp : ∀ r : Nat, kp r = true → post (nI r)) (fu : Nat) : ∀ (x1 : Nat) (x2 : Nat) (e_x1 : Int32) (e_x2 : Int32), zb_X_smallestSet_5 kp A5 fu x1 x2 = true → e_x1 = nI x1 → e_x2 = nI x2 → wX_smallestSet_5 post S0 S1 S2 A1 A2 A3 A4 (zq_g A5) A6 A7 A8 A9 A10 A11 A12 A13 A14 A15 A16 A17 fu e_x1 e_x2 := by
  induction fu with
  | zero => intro x1 x2 e_x1 e_x2 h q_x1 q_x2; exact absurd h Bool.false_ne_true
  | succ n ih =>
    intro x1 x2 e_x1 e_x2 h q_x1 q_x2
    subst q_x1; subst q_x2; have h : (zq_if (zq_le (nat_lit 31) x2)
        (kp x1)
        (zb_X_onesIn (fun r_2 => zb_X_onesIn (fun r_3 => zq_if (zq_le r_3 r_2)
        (zb_X_smallestSet_33 kp (zb_X_smallestSet_5 kp A5 n) x1 x2 A5 40 (nat_lit 0) (nat_lit 0))
        (zb_X_smallestSet_33 kp (zb_X_smallestSet_5 kp A5 n) x1 x2 A5 40 (nat_lit 1) (nat_lit 0))) x1) x2)) = true := h
    exact zq_br h (zq_cle rfl rfl)
        (fun h => hp _ h)
        (fun h => zs_X_onesIn h rfl (fun r_2 h => zs_X_onesIn h rfl (fun r_3 h => zq_br h (zq_cle rfl rfl)
        (fun h => Exists.intro 40 (zs_X_smallestSet_33 h rfl rfl rfl rfl hp (fun y0 y1 h => ih y0 y1 _ _ h rfl rfl)))
        (fun h => Exists.intro 40 (zs_X_smallestSet_33 h rfl rfl rfl rfl hp (fun y0 y1 h => ih y0 y1 _ _ h rfl rfl))))))
theorem zs_X_smallestSet_5 {post : Int32 → Prop} {kp : Nat → Bool} {A5 : Nat} {x1 : Nat} {x2 : Nat} {S0 : Int32} {S1 : Int32} {S2 : Int32} {A1 : Nat → Int32} {A2 : Nat → Int32} {A3 : Nat → Int32} {A4 : Nat → Int32} {A6 : Nat → Int32} {A7 : Nat → Int32} {A8 : Nat → Int32} {A9 : Nat → Int32} {A10 : Nat → Int32} {A11 : Nat → Int32} {A12 : Nat → Int32} {A13 : Nat → Int32} {A14 : Nat → Int32} {A15 : Nat → Int32} {A16 : Nat → Int32} {A17 : Nat → Int32} {e_x1 : Int32} {e_x2 : Int32} {fu : Nat} (h : zb_X_smallestSet_5 kp A5 fu x1 x2 = true) (q_x1 : e_x1 = nI x1) (q_x2 : e_x2 = nI x2) (hp : ∀ r : Nat, kp r = true → post (nI r)) : wX_smallestSet_5 post S0 S1 S2 A1 A2 A3 A4 (zq_g A5) A6 A7 A8 A9 A10 A11 A12 A13 A14 A15 A16 A17 fu e_x1 e_x2 := by
  exact zr_X_smallestSet_5 hp fu _ _ _ _ h q_x1 q_x2
noncomputable def zb_X_smallestSet (kp : Nat → Bool) (A5 : Nat) : Bool :=
        zb_X_smallestSet_5 kp A5 40 (nat_lit 31) (nat_lit 1)
theorem zs_X_smallestSet {post : Int32 → Prop} {kp : Nat → Bool} {A5 : Nat} {S0 : Int32} {S1 : Int32} {S2 : Int32} {A1 : Nat → Int32} {A2 : Nat → Int32} {A3 : Nat → Int32} {A4 : Nat → Int32} {A6 : Nat → Int32} {A7 : Nat → Int32} {A8 : Nat → Int32} {A9 : Nat → Int32} {A10 : Nat → Int32} {A11 : Nat → Int32} {A12 : Nat → Int32} {A13 : Nat → Int32} {A14 : Nat → Int32} {A15 : Nat → Int32} {A16 : Nat → Int32} {A17 : Nat → Int32} (h : zb_X_smallestSet kp A5 = true) (hp : ∀ r : Nat, kp r = true → post (nI r)) : wpX_smallestSet post (S0, S1, S2, A1, A2, A3, A4, (zq_g A5), A6, A7, A8, A9, A10, A11, A12, A13, A14, A15, A16, A17) := by
  have h : (zb_X_smallestSet_5 kp A5 40 (nat_lit 31) (nat_lit 1)) = true := h
  exact Exists.intro 40 (zs_X_smallestSet_5 h rfl rfl hp)
end
section
/-! printed by gen.py: wpX_addCouple .. wpX_byCouples -/
noncomputable def zb_X_addCouple (kp : Nat → Nat → Nat → Bool) (p0 : Nat) (p1 : Nat) (S2 : Nat) (A10 : Nat) (A11 : Nat) : Bool :=
        zq_if (zq_in S2 (nat_lit 10))
        (zq_fc (zq_set A10 (zq_cl S2) (zq_i8 p0)) (fun a10_2 => zq_if (zq_in S2 (nat_lit 10))
        (zq_fc (zq_set A11 (zq_cl S2) (zq_i8 p1)) (fun a11_4 => zq_fc (zq_add S2 (nat_lit 1)) (fun f_5 => kp f_5 a10_2 a11_4))) false)) false
theorem zs_X_addCouple {post : St2 → Prop} {kp : Nat → Nat → Nat → Bool} {p0 : Nat} {p1 : Nat} {S2 : Nat} {A10 : Nat} {A11 : Nat} {S0 : Int32} {S1 : Int32} {A1 : Nat → Int32} {A2 : Nat → Int32} {A3 : Nat → Int32} {A4 : Nat → Int32} {A5 : Nat → Int32} {A6 : Nat → Int32} {A7 : Nat → Int32} {A8 : Nat → Int32} {A9 : Nat → Int32} {A12 : Nat → Int32} {A13 : Nat → Int32} {A14 : Nat → Int32} {A15 : Nat → Int32} {A16 : Nat → Int32} {A17 : Nat → Int32} {e_p0 : Int32} {e_p1 : Int32} (h : zb_X_addCouple kp p0 p1 S2 A10 A11 = true) (q_p0 : e_p0 = nI p0) (q_p1 : e_p1 = nI p1) (hp : ∀ w2 w12 w13 : Nat, kp w2 w12 w13 = true → post (S0, S1, (nI w2), A1, A2, A3, A4, A5, A6, A7, A8, A9, (zq_g w12), (zq_g w13), A12, A13, A14, A15, A16, A17)) : wpX_addCouple post (S0, S1, (nI S2), A1, A2, A3, A4, A5, A6, A7, A8, A9, (zq_g A10), (zq_g A11), A12, A13, A14, A15, A16, A17) e_p0 e_p1 := by
  subst q_p0; subst q_p1; have h : (zq_if (zq_in S2 (nat_lit 10))
        (zq_fc (zq_set A10 (zq_cl S2) (zq_i8 p0)) (fun a10_2 => zq_if (zq_in S2 (nat_lit 10))
        (zq_fc (zq_set A11 (zq_cl S2) (zq_i8 p1)) (fun a11_4 => zq_fc (zq_add S2 (nat_lit 1)) (fun f_5 => kp f_5 a10_2 a11_4))) false)) false) = true := h
  exact zq_vi h rfl (by decide) (fun h => zq_up h rfl (zq_hi8 rfl) (fun a10_2 h => zq_vi h rfl (by decide) (fun h => zq_up h rfl (zq_hi8 rfl) (fun a11_4 h => zq_ly h (zq_hadd rfl rfl) (fun f_5 h => hp _ _ _ h)))))
noncomputable def zb_X_listCouples_21 (kp : Nat → Nat → Nat → Bool) (kJ8 : Nat → Nat → Nat → Nat → Bool) (kJ14 : Nat → Nat → Nat → Nat → Bool) (x1 : Nat) (x2 : Nat) (A4 : Nat) : Nat → Nat → Nat → Nat → Nat → Bool := fun fu => @Nat.rec (fun _ => Nat → Nat → Nat → Nat → Bool) (fun _ _ _ _ => false) (fun _ ih => fun x3 S2 A10 A11 =>
        zq_if (zq_le (nat_lit 5) x3)
        (zq_fc (zq_add x2 (nat_lit 1)) (fun x2_5 => kJ14 x2_5 S2 A10 A11))
        (zq_if (zq_in (zq_add (zq_mul (nat_lit 5) x2) x3) (nat_lit 25))
        (zq_if (zq_eq (zq_get A4 (zq_cl (zq_add (zq_mul (nat_lit 5) x2) x3))) x1)
        (zb_X_addCouple (fun f0_coupleCount_12 am4310_42 am4311_45 => zq_fc (zq_add x3 (nat_lit 1)) (fun x3_64 => ih x3_64 f0_coupleCount_12 am4310_42 am4311_45)) x2 x3 S2 A10 A11)
        (zq_fc (zq_add x3 (nat_lit 1)) (fun x3_8 => ih x3_8 S2 A10 A11))) false)) fu
theorem zr_X_listCouples_21 {post : St2 → Prop} {J8 : Int32 → Int32 → Int32 → Int32 → (Nat → Int32) → (Nat → Int32) → (Nat → Int32) → (Nat → Int32) → (Nat → Int32) → (Nat → Int32) → (Nat → Int32) → (Nat → Int32) → (Nat → Int32) → (Nat → Int32) → (Nat → Int32) → (Nat → Int32) → (Nat → Int32) → (Nat → Int32) → (Nat → Int32) → (Nat → Int32) → (Nat → Int32) → Prop} {J14 : Int32 → Int32 → Int32 → Int32 → (Nat → Int32) → (Nat → Int32) → (Nat → Int32) → (Nat → Int32) → (Nat → Int32) → (Nat → Int32) → (Nat → Int32) → (Nat → Int32) → (Nat → Int32) → (Nat → Int32) → (Nat → Int32) → (Nat → Int32) → (Nat → Int32) → (Nat → Int32) → (Nat → Int32) → (Nat → Int32) → (Nat → Int32) → Prop} {kp : Nat → Nat → Nat → Bool} {kJ8 : Nat → Nat → Nat → Nat → Bool} {kJ14 : Nat → Nat → Nat → Nat → Bool} {x1 : Nat} {x2 : Nat} {A4 : Nat} {S0 : Int32} {S1 : Int32} {A1 : Nat → Int32} {A2 : Nat → Int32} {A3 : Nat → Int32} {A5 : Nat → Int32} {A6 : Nat → Int32} {A7 : Nat → Int32} {A8 : Nat → Int32} {A9 : Nat → Int32} {A12 : Nat → Int32} {A13 : Nat → Int32} {A14 : Nat → Int32} {A15 : Nat → Int32} {A16 : Nat → Int32} {A17 : Nat → Int32} (hp : ∀ w2 w12 w13 : Nat, kp w2 w12 w13 = true → post (S0, S1, (nI w2), A1, A2, A3, (zq_g A4), A5, A6, A7, A8, A9, (zq_g w12), (zq_g w13), A12, A13, A14, A15, A16, A17)) (hJ8 : ∀ y_x1 v2 v12 v13 : Nat, kJ8 y_x1 v2 v12 v13 = true → J8 (nI y_x1) S0 S1 (nI v2) A1 A2 A3 (zq_g A4) A5 A6 A7 A8 A9 (zq_g v12) (zq_g v13) A12 A13 A14 A15 A16 A17) (hJ14 : ∀ y_x2 v2 v12 v13 : Nat, kJ14 y_x2 v2 v12 v13 = true → J14 (nI y_x2) S0 S1 (nI v2) A1 A2 A3 (zq_g A4) A5 A6 A7 A8 A9 (zq_g v12) (zq_g v13) A12 A13 A14 A15 A16 A17) (fu : Nat) : ∀ (x3 : Nat) (S2 : Nat) (A10 : Nat) (A11 : Nat) (e_x3 : Int32), zb_X_listCouples_21 kp kJ8 kJ14 x1 x2 A4 fu x3 S2 A10 A11 = true → e_x3 = nI x3 → wX_listCouples_21 post J8 J14 (nI x1) (nI x2) fu e_x3 S0 S1 (nI S2) A1 A2 A3 (zq_g A4) A5 A6 A7 A8 A9 (zq_g A10) (zq_g A11) A12 A13 A14 A15 A16 A17 := by
  induction fu with
  | zero => intro x3 S2 A10 A11 e_x3 h q_x3; exact absurd h Bool.false_ne_true
  | succ n ih =>
    intro x3 S2 A10 A11 e_x3 h q_x3
    subst q_x3; have h : (zq_if (zq_le (nat_lit 5) x3)
        (zq_fc (zq_add x2 (nat_lit 1)) (fun x2_5 => kJ14 x2_5 S2 A10 A11))
        (zq_if (zq_in (zq_add (zq_mul (nat_lit 5) x2) x3) (nat_lit 25))
        (zq_if (zq_eq (zq_get A4 (zq_cl (zq_add (zq_mul (nat_lit 5) x2) x3))) x1)
        (zb_X_addCouple (fun f0_coupleCount_12 am4310_42 am4311_45 => zq_fc (zq_add x3 (nat_lit 1)) (fun x3_64 => (zb_X_listCouples_21 kp kJ8 kJ14 x1 x2 A4 n) x3_64 f0_coupleCount_12 am4310_42 am4311_45)) x2 x3 S2 A10 A11)
        (zq_fc (zq_add x3 (nat_lit 1)) (fun x3_8 => (zb_X_listCouples_21 kp kJ8 kJ14 x1 x2 A4 n) x3_8 S2 A10 A11))) false)) = true := h
    exact zq_br h (zq_cle rfl rfl)
        (fun h => zq_ly h (zq_hadd rfl rfl) (fun x2_5 h => hJ14 _ _ _ _ h))
        (fun h => zq_vi h (zq_hadd (zq_hmul rfl rfl) rfl) (by decide) (fun h => zq_br h (zq_ceq (zq_rd (zq_hadd (zq_hmul rfl rfl) rfl)) rfl)
        (fun h => zs_X_addCouple h rfl rfl (fun f0_coupleCount_12 am4310_42 am4311_45 h => zq_ly h (zq_hadd rfl rfl) (fun x3_64 h => ih _ _ _ _ _ h rfl)))
        (fun h => zq_ly h (zq_hadd rfl rfl) (fun x3_8 h => ih _ _ _ _ _ h rfl))))
theorem zs_X_listCouples_21 {post : St2 → Prop} {J8 : Int32 → Int32 → Int32 → Int32 → (Nat → Int32) → (Nat → Int32) → (Nat → Int32) → (Nat → Int32) → (Nat → Int32) → (Nat → Int32) → (Nat → Int32) → (Nat → Int32) → (Nat → Int32) → (Nat → Int32) → (Nat → Int32) → (Nat → Int32) → (Nat → Int32) → (Nat → Int32) → (Nat → Int32) → (Nat → Int32) → (Nat → Int32) → Prop} {J14 : Int32 → Int32 → Int32 → Int32 → (Nat → Int32) → (Nat → Int32) → (Nat → Int32) → (Nat → Int32) → (Nat → Int32) → (Nat → Int32) → (Nat → Int32) → (Nat → Int32) → (Nat → Int32) → (Nat → Int32) → (Nat → Int32) → (Nat → Int32) → (Nat → Int32) → (Nat → Int32) → (Nat → Int32) → (Nat → Int32) → (Nat → Int32) → Prop} {kp : Nat → Nat → Nat → Bool} {kJ8 : Nat → Nat → Nat → Nat → Bool} {kJ14 : Nat → Nat → Nat → Nat → Bool} {x1 : Nat} {x2 : Nat} {A4 : Nat} {x3 : Nat} {S2 : Nat} {A10 : Nat} {A11 : Nat} {S0 : Int32} {S1 : Int32} {A1 : Nat → Int32} {A2 : Nat → Int32} {A3 : Nat → Int32} {A5 : Nat → Int32} {A6 : Nat → Int32} {A7 : Nat → Int32} {A8 : Nat → Int32} {A9 : Nat → Int32} {A12 : Nat → Int32} {A13 : Nat → Int32} {A14 : Nat → Int32} {A15 : Nat → Int32} {A16 : Nat → Int32} {A17 : Nat → Int32} {e_x1 : Int32} {e_x2 : Int32} {e_x3 : Int32} {fu : Nat} (h : zb_X_listCouples_21 kp kJ8 kJ14 x1 x2 A4 fu x3 S2 A10 A11 = true) (q_x1 : e_x1 = nI x1) (q_x2 : e_x2 = nI x2) (q_x3 : e_x3 = nI x3) (hp : ∀ w2 w12 w13 : Nat, kp w2 w12 w13 = true → post (S0, S1, (nI w2), A1, A2, A3, (zq_g A4), A5, A6, A7, A8, A9, (zq_g w12), (zq_g w13), A12, A13, A14, A15, A16, A17)) (hJ8 : ∀ y_x1 v2 v12 v13 : Nat, kJ8 y_x1 v2 v12 v13 = true → J8 (nI y_x1) S0 S1 (nI v2) A1 A2 A3 (zq_g A4) A5 A6 A7 A8 A9 (zq_g v12) (zq_g v13) A12 A13 A14 A15 A16 A17) (hJ14 : ∀ y_x2 v2 v12 v13 : Nat, kJ14 y_x2 v2 v12 v13 = true → J14 (nI y_x2) S0 S1 (nI v2) A1 A2 A3 (zq_g A4) A5 A6 A7 A8 A9 (zq_g v12) (zq_g v13) A12 A13 A14 A15 A16 A17) : wX_listCouples_21 post J8 J14 e_x1 e_x2 fu e_x3 S0 S1 (nI S2) A1 A2 A3 (zq_g A4) A5 A6 A7 A8 A9 (zq_g A10) (zq_g A11) A12 A13 A14 A15 A16 A17 := by
  subst q_x1; subst q_x2; exact zr_X_listCouples_21 hp hJ8 hJ14 fu _ _ _ _ _ h q_x3
noncomputable def zb_X_listCouples_14 (kp : Nat → Nat → Nat → Bool) (kJ8 : Nat → Nat → Nat → Nat → Bool) (x1 : Nat) (A4 : Nat) : Nat → Nat → Nat → Nat → Nat → Bool := fun fu => @Nat.rec (fun _ => Nat → Nat → Nat → Nat → Bool) (fun _ _ _ _ => false) (fun _ ih => fun x2 S2 A10 A11 =>
        zq_if (zq_le (nat_lit 5) x2)
        (zq_fc (zq_add x1 (nat_lit 4294967295)) (fun x1_3 => kJ8 x1_3 S2 A10 A11))
        (zb_X_listCouples_21 kp kJ8 ih x1 x2 A4 40 (nat_lit 0) S2 A10 A11)) fu
theorem zr_X_listCouples_14 {post : St2 → Prop} {J8 : Int32 → Int32 → Int32 → Int32 → (Nat → Int32) → (Nat → Int32) → (Nat → Int32) → (Nat → Int32) → (Nat → Int32) → (Nat → Int32) → (Nat → Int32) → (Nat → Int32) → (Nat → Int32) → (Nat → Int32) → (Nat → Int32) → (Nat → Int32) → (Nat → Int32) → (Nat → Int32) → (Nat → Int32) → (Nat → Int32) → (Nat → Int32) → Prop} {kp : Nat → Nat → Nat → Bool} {kJ8 : Nat → Nat → Nat → Nat → Bool} {x1 : Nat} {A4 : Nat} {S0 : Int32} {S1 : Int32} {A1 : Nat → Int32} {A2 : Nat → Int32} {A3 : Nat → Int32} {A5 : Nat → Int32} {A6 : Nat → Int32} {A7 : Nat → Int32} {A8 : Nat → Int32} {A9 : Nat → Int32} {A12 : Nat → Int32} {A13 : Nat → Int32} {A14 : Nat → Int32} {A15 : Nat → Int32} {A16 : Nat → Int32} {A17 : Nat → Int32} (hp : ∀ w2 w12 w13 : Nat, kp w2 w12 w13 = true → post (S0, S1, (nI w2), A1, A2, A3, (zq_g A4), A5, A6, A7, A8, A9, (zq_g w12), (zq_g w13), A12, A13, A14, A15, A16, A17)) (hJ8 : ∀ y_x1 v2 v12 v13 : Nat, kJ8 y_x1 v2 v12 v13 = true → J8 (nI y_x1) S0 S1 (nI v2) A1 A2 A3 (zq_g A4) A5 A6 A7 A8 A9 (zq_g v12) (zq_g v13) A12 A13 A14 A15 A16 A17) (fu : Nat) : ∀ (x2 : Nat) (S2 : Nat) (A10 : Nat) (A11 : Nat) (e_x2 : Int32), zb_X_listCouples_14 kp kJ8 x1 A4 fu x2 S2 A10 A11 = true → e_x2 = nI x2 → wX_listCouples_14 post J8 (nI x1) fu e_x2 S0 S1 (nI S2) A1 A2 A3 (zq_g A4) A5 A6 A7 A8 A9 (zq_g A10) (zq_g A11) A12 A13 A14 A15 A16 A17 := by
  induction fu with
  | zero => intro x2 S2 A10 A11 e_x2 h q_x2; exact absurd h Bool.false_ne_true
  | succ n ih =>
    intro x2 S2 A10 A11 e_x2 h q_x2
    subst q_x2; have h : (zq_if (zq_le (nat_lit 5) x2)
        (zq_fc (zq_add x1 (nat_lit 4294967295)) (fun x1_3 => kJ8 x1_3 S2 A10 A11))
        (zb_X_listCouples_21 kp kJ8 (zb_X_listCouples_14 kp kJ8 x1 A4 n) x1 x2 A4 40 (nat_lit 0) S2 A10 A11)) = true := h
    exact zq_br h (zq_cle rfl rfl)
        (fun h => zq_ly h (zq_hadd rfl zq_m1) (fun x1_3 h => hJ8 _ _ _ _ h))
        (fun h => Exists.intro 40 (zs_X_listCouples_21 h rfl rfl rfl hp hJ8 (fun y0 y1 y2 y3 h => ih y0 y1 y2 y3 _ h rfl)))
theorem zs_X_listCouples_14 {post : St2 → Prop} {J8 : Int32 → Int32 → Int32 → Int32 → (Nat → Int32) → (Nat → Int32) → (Nat → Int32) → (Nat → Int32) → (Nat → Int32) → (Nat → Int32) → (Nat → Int32) → (Nat → Int32) → (Nat → Int32) → (Nat → Int32) → (Nat → Int32) → (Nat → Int32) → (Nat → Int32) → (Nat → Int32) → (Nat → Int32) → (Nat → Int32) → (Nat → Int32) → Prop} {kp : Nat → Nat → Nat → Bool} {kJ8 : Nat → Nat → Nat → Nat → Bool} {x1 : Nat} {A4 : Nat} {x2 : Nat} {S2 : Nat} {A10 : Nat} {A11 : Nat} {S0 : Int32} {S1 : Int32} {A1 : Nat → Int32} {A2 : Nat → Int32} {A3 : Nat → Int32} {A5 : Nat → Int32} {A6 : Nat → Int32} {A7 : Nat → Int32} {A8 : Nat → Int32} {A9 : Nat → Int32} {A12 : Nat → Int32} {A13 : Nat → Int32} {A14 : Nat → Int32} {A15 : Nat → Int32} {A16 : Nat → Int32} {A17 : Nat → Int32} {e_x1 : Int32} {e_x2 : Int32} {fu : Nat} (h : zb_X_listCouples_14 kp kJ8 x1 A4 fu x2 S2 A10 A11 = true) (q_x1 : e_x1 = nI x1) (q_x2 : e_x2 = nI x2) (hp : ∀ w2 w12 w13 : Nat, kp w2 w12 w13 = true → post (S0, S1, (nI w2), A1, A2, A3, (zq_g A4), A5, A6, A7, A8, A9, (zq_g w12), (zq_g w13), A12, A13, A14, A15, A16, A17)) (hJ8 : ∀ y_x1 v2 v12 v13 : Nat, kJ8 y_x1 v2 v12 v13 = true → J8 (nI y_x1) S0 S1 (nI v2) A1 A2 A3 (zq_g A4) A5 A6 A7 A8 A9 (zq_g v12) (zq_g v13) A12 A13 A14 A15 A16 A17) : wX_listCouples_14 post J8 e_x1 fu e_x2 S0 S1 (nI S2) A1 A2 A3 (zq_g A4) A5 A6 A7 A8 A9 (zq_g A10) (zq_g A11) A12 A13 A14 A15 A16 A17 := by
  subst q_x1; exact zr_X_listCouples_14 hp hJ8 fu _ _ _ _ _ h q_x2
noncomputable def zb_X_listCouples_8 (kp : Nat → Nat → Nat → Bool) (A4 : Nat) : Nat → Nat → Nat → Nat → Nat → Bool := fun fu => @Nat.rec (fun _ => Nat → Nat → Nat → Nat → Bool) (fun _ _ _ _ => false) (fun _ ih => fun x1 S2 A10 A11 =>
        zq_if (zq_le x1 (nat_lit 0))
        (kp S2 A10 A11)
        (zb_X_listCouples_14 kp ih x1 A4 40 (nat_lit 0) S2 A10 A11)) fu
theorem zr_X_listCouples_8 {post : St2 → Prop} {kp : Nat → Nat → Nat → Bool} {A4 : Nat} {S0 : Int32} {S1 : Int32} {A1 : Nat → Int32} {A2 : Nat → Int32} {A3 : Nat → Int32} {A5 : Nat → Int32} {A6 : Nat → Int32} {A7 : Nat → Int32} {A8 : Nat → Int32} {A9 : Nat → Int32} {A12 : Nat → Int32} {A13 : Nat → Int32} {A14 : Nat → Int32} {A15 : Nat → Int32} {A16 : Nat → Int32} {A17 : Nat → Int32} (hp : ∀ w2 w12 w13 : Nat, kp w2 w12 w13 = true → post (S0, S1, (nI w2), A1, A2, A3, (zq_g A4), A5, A6, A7, A8, A9, (zq_g w12), (zq_g w13), A12, A13, A14, A15, A16, A17)) (fu : Nat) : ∀ (x1 : Nat) (S2 : Nat) (A10 : Nat) (A11 : Nat) (e_x1 : Int32), zb_X_listCouples_8 kp A4 fu x1 S2 A10 A11 = true → e_x1 = nI x1 → wX_listCouples_8 post fu e_x1 S0 S1 (nI S2) A1 A2 A3 (zq_g A4) A5 A6 A7 A8 A9 (zq_g A10) (zq_g A11) A12 A13 A14 A15 A16 A17 := by
  induction fu with
  | zero => intro x1 S2 A10 A11 e_x1 h q_x1; exact absurd h Bool.false_ne_true
  | succ n ih =>
    intro x1 S2 A10 A11 e_x1 h q_x1
    subst q_x1; have h : (zq_if (zq_le x1 (nat_lit 0))
        (kp S2 A10 A11)
        (zb_X_listCouples_14 kp (zb_X_listCouples_8 kp A4 n) x1 A4 40 (nat_lit 0) S2 A10 A11)) = true := h
    exact zq_br h (zq_cle rfl rfl)
        (fun h => hp _ _ _ h)
        (fun h => Exists.intro 40 (zs_X_listCouples_14 h rfl rfl hp (fun y0 y1 y2 y3 h => ih y0 y1 y2 y3 _ h rfl)))
theorem zs_X_listCouples_8 {post : St2 → Prop} {kp : Nat → Nat → Nat → Bool} {A4 : Nat} {x1 : Nat} {S2 : Nat} {A10 : Nat} {A11 : Nat} {S0 : Int32} {S1 : Int32} {A1 : Nat → Int32} {A2 : Nat → Int32} {A3 : Nat → Int32} {A5 : Nat → Int32} {A6 : Nat → Int32} {A7 : Nat → Int32} {A8 : Nat → Int32} {A9 : Nat → Int32} {A12 : Nat → Int32} {A13 : Nat → Int32} {A14 : Nat → Int32} {A15 : Nat → Int32} {A16 : Nat → Int32} {A17 : Nat → Int32} {e_x1 : Int32} {fu : Nat} (h : zb_X_listCouples_8 kp A4 fu x1 S2 A10 A11 = true) (q_x1 : e_x1 = nI x1) (hp : ∀ w2 w12 w13 : Nat, kp w2 w12 w13 = true → post (S0, S1, (nI w2), A1, A2, A3, (zq_g A4), A5, A6, A7, A8, A9, (zq_g w12), (zq_g w13), A12, A13, A14, A15, A16, A17)) : wX_listCouples_8 post fu e_x1 S0 S1 (nI S2) A1 A2 A3 (zq_g A4) A5 A6 A7 A8 A9 (zq_g A10) (zq_g A11) A12 A13 A14 A15 A16 A17 := by
  exact zr_X_listCouples_8 hp fu _ _ _ _ _ h q_x1
noncomputable def zb_X_listCouples (kp : Nat → Nat → Nat → Bool) (S2 : Nat) (A4 : Nat) (A10 : Nat) (A11 : Nat) : Bool :=
        zb_X_listCouples_8 kp A4 40 (nat_lit 9) (nat_lit 0) A10 A11
theorem zs_X_listCouples {post : St2 → Prop} {kp : Nat → Nat → Nat → Bool} {S2 : Nat} {A4 : Nat} {A10 : Nat} {A11 : Nat} {S0 : Int32} {S1 : Int32} {A1 : Nat → Int32} {A2 : Nat → Int32} {A3 : Nat → Int32} {A5 : Nat → Int32} {A6 : Nat → Int32} {A7 : Nat → Int32} {A8 : Nat → Int32} {A9 : Nat → Int32} {A12 : Nat → Int32} {A13 : Nat → Int32} {A14 : Nat → Int32} {A15 : Nat → Int32} {A16 : Nat → Int32} {A17 : Nat → Int32} (h : zb_X_listCouples kp S2 A4 A10 A11 = true) (hp : ∀ w2 w12 w13 : Nat, kp w2 w12 w13 = true → post (S0, S1, (nI w2), A1, A2, A3, (zq_g A4), A5, A6, A7, A8, A9, (zq_g w12), (zq_g w13), A12, A13, A14, A15, A16, A17)) : wpX_listCouples post (S0, S1, (nI S2), A1, A2, A3, (zq_g A4), A5, A6, A7, A8, A9, (zq_g A10), (zq_g A11), A12, A13, A14, A15, A16, A17) := by
  have h : (zb_X_listCouples_8 kp A4 40 (nat_lit 9) (nat_lit 0) A10 A11) = true := h
  exact Exists.intro 40 (zs_X_listCouples_8 h rfl hp)
noncomputable def zb_X_unbeaten_5 (kp : Nat → Bool) (x1 : Nat) (S2 : Nat) (A11 : Nat) : Nat → Nat → Nat → Bool := fun fu => @Nat.rec (fun _ => Nat → Nat → Bool) (fun _ _ => false) (fun _ ih => fun x2 x3 =>
        zq_if (zq_le S2 x3)
        (kp x2)
        (zq_if (zq_eq (zq_and (zq_shr x1 x3) (nat_lit 1)) (nat_lit 0))
        (zq_fc (zq_add x3 (nat_lit 1)) (fun x3_3 => ih x2 x3_3))
        (zq_if (zq_in x3 (nat_lit 10))
        (zq_fc (zq_and x2 (zq_xor (zq_shl (nat_lit 1) (zq_get A11 (zq_cl x3))) (nat_lit 4294967295))) (fun x2_5 => zq_fc (zq_add x3 (nat_lit 1)) (fun x3_6 => ih x2_5 x3_6))) false))) fu
theorem zr_X_unbeaten_5 {post : Int32 → Prop} {kp : Nat → Bool} {x1 : Nat} {S2 : Nat} {A11 : Nat} {S0 : Int32} {S1 : Int32} {A1 : Nat → Int32} {A2 : Nat → Int32} {A3 : Nat → Int32} {A4 : Nat → Int32} {A5 : Nat → Int32} {A6 : Nat → Int32} {A7 : Nat → Int32} {A8 : Nat → Int32} {A9 : Nat → Int32} {A10 : Nat → Int32} {A12 : Nat → Int32} {A13 : Nat → Int32} {A14 : Nat → Int32} {A15 : Nat → Int32} {A16 : Nat → Int32} {A17 : Nat → Int32} (hp : ∀ r : Nat, kp r = true → post (nI r)) (fu : Nat) : ∀ (x2 : Nat) (x3 : Nat) (e_x2 : Int32) (e_x3 : Int32), zb_X_unbeaten_5 kp x1 S2 A11 fu x2 x3 = true → e_x2 = nI x2 → e_x3 = nI x3 → wX_unbeaten_5 post (nI x1) S0 S1 (nI S2) A1 A2 A3 A4 A5 A6 A7 A8 A9 A10 (zq_g A11) A12 A13 A14 A15 A16 A17 fu e_x2 e_x3 := by
  induction fu with
  | zero => intro x2 x3 e_x2 e_x3 h q_x2 q_x3; exact absurd h Bool.false_ne_true
  | succ n ih =>
    intro x2 x3 e_x2 e_x3 h q_x2 q_x3
    subst q_x2; subst q_x3; have h : (zq_if (zq_le S2 x3)
        (kp x2)
        (zq_if (zq_eq (zq_and (zq_shr x1 x3) (nat_lit 1)) (nat_lit 0))
        (zq_fc (zq_add x3 (nat_lit 1)) (fun x3_3 => (zb_X_unbeaten_5 kp x1 S2 A11 n) x2 x3_3))
        (zq_if (zq_in x3 (nat_lit 10))
        (zq_fc (zq_and x2 (zq_xor (zq_shl (nat_lit 1) (zq_get A11 (zq_cl x3))) (nat_lit 4294967295))) (fun x2_5 => zq_fc (zq_add x3 (nat_lit 1)) (fun x3_6 => (zb_X_unbeaten_5 kp x1 S2 A11 n) x2_5 x3_6))) false))) = true := h
    exact zq_br h (zq_cle rfl rfl)
        (fun h => hp _ h)
        (fun h => zq_br h (zq_ceq (zq_hand (zq_hshr rfl rfl) rfl) rfl)
        (fun h => zq_ly h (zq_hadd rfl rfl) (fun x3_3 h => ih _ _ _ _ h rfl rfl))
        (fun h => zq_vi h rfl (by decide) (fun h => zq_ly h (zq_hand rfl (zq_hxor (zq_hshl rfl (zq_rd rfl)) zq_m1)) (fun x2_5 h => zq_ly h (zq_hadd rfl rfl) (fun x3_6 h => ih _ _ _ _ h rfl rfl)))))
theorem zs_X_unbeaten_5 {post : Int32 → Prop} {kp : Nat → Bool} {x1 : Nat} {S2 : Nat} {A11 : Nat} {x2 : Nat} {x3 : Nat} {S0 : Int32} {S1 : Int32} {A1 : Nat → Int32} {A2 : Nat → Int32} {A3 : Nat → Int32} {A4 : Nat → Int32} {A5 : Nat → Int32} {A6 : Nat → Int32} {A7 : Nat → Int32} {A8 : Nat → Int32} {A9 : Nat → Int32} {A10 : Nat → Int32} {A12 : Nat → Int32} {A13 : Nat → Int32} {A14 : Nat → Int32} {A15 : Nat → Int32} {A16 : Nat → Int32} {A17 : Nat → Int32} {e_x1 : Int32} {e_x2 : Int32} {e_x3 : Int32} {fu : Nat} (h : zb_X_unbeaten_5 kp x1 S2 A11 fu x2 x3 = true) (q_x1 : e_x1 = nI x1) (q_x2 : e_x2 = nI x2) (q_x3 : e_x3 = nI x3) (hp : ∀ r : Nat, kp r = true → post (nI r)) : wX_unbeaten_5 post e_x1 S0 S1 (nI S2) A1 A2 A3 A4 A5 A6 A7 A8 A9 A10 (zq_g A11) A12 A13 A14 A15 A16 A17 fu e_x2 e_x3 := by
  subst q_x1; exact zr_X_unbeaten_5 hp fu _ _ _ _ h q_x2 q_x3
noncomputable def zb_X_unbeaten (kp : Nat → Bool) (p0 : Nat) (S2 : Nat) (A11 : Nat) : Bool :=
        zb_X_unbeaten_5 kp p0 S2 A11 40 (nat_lit 31) (nat_lit 0)
theorem zs_X_unbeaten {post : Int32 → Prop} {kp : Nat → Bool} {p0 : Nat} {S2 : Nat} {A11 : Nat} {S0 : Int32} {S1 : Int32} {A1 : Nat → Int32} {A2 : Nat → Int32} {A3 : Nat → Int32} {A4 : Nat → Int32} {A5 : Nat → Int32} {A6 : Nat → Int32} {A7 : Nat → Int32} {A8 : Nat → Int32} {A9 : Nat → Int32} {A10 : Nat → Int32} {A12 : Nat → Int32} {A13 : Nat → Int32} {A14 : Nat → Int32} {A15 : Nat → Int32} {A16 : Nat → Int32} {A17 : Nat → Int32} {e_p0 : Int32} (h : zb_X_unbeaten kp p0 S2 A11 = true) (q_p0 : e_p0 = nI p0) (hp : ∀ r : Nat, kp r = true → post (nI r)) : wpX_unbeaten post (S0, S1, (nI S2), A1, A2, A3, A4, A5, A6, A7, A8, A9, A10, (zq_g A11), A12, A13, A14, A15, A16, A17) e_p0 := by
  subst q_p0; have h : (zb_X_unbeaten_5 kp p0 S2 A11 40 (nat_lit 31) (nat_lit 0)) = true := h
  exact Exists.intro 40 (zs_X_unbeaten_5 h rfl rfl rfl hp)
noncomputable def zb_X_marginOf (kp : Nat → Bool) (p0 : Nat) (A4 : Nat) (A10 : Nat) (A11 : Nat) : Bool :=
        zq_if (zq_in p0 (nat_lit 10))
        (zq_if (zq_in p0 (nat_lit 10))
        (zq_if (zq_in (zq_add (zq_mul (nat_lit 5) (zq_get A10 (zq_cl p0))) (zq_get A11 (zq_cl p0))) (nat_lit 25))
        (zq_fc (zq_get A4 (zq_cl (zq_add (zq_mul (nat_lit 5) (zq_get A10 (zq_cl p0))) (zq_get A11 (zq_cl p0))))) (fun y1 => kp y1)) false) false) false
theorem zs_X_marginOf {post : Int32 → Prop} {kp : Nat → Bool} {p0 : Nat} {A4 : Nat} {A10 : Nat} {A11 : Nat} {S0 : Int32} {S1 : Int32} {S2 : Int32} {A1 : Nat → Int32} {A2 : Nat → Int32} {A3 : Nat → Int32} {A5 : Nat → Int32} {A6 : Nat → Int32} {A7 : Nat → Int32} {A8 : Nat → Int32} {A9 : Nat → Int32} {A12 : Nat → Int32} {A13 : Nat → Int32} {A14 : Nat → Int32} {A15 : Nat → Int32} {A16 : Nat → Int32} {A17 : Nat → Int32} {e_p0 : Int32} (h : zb_X_marginOf kp p0 A4 A10 A11 = true) (q_p0 : e_p0 = nI p0) (hp : ∀ r : Nat, kp r = true → post (nI r)) : wpX_marginOf post (S0, S1, S2, A1, A2, A3, (zq_g A4), A5, A6, A7, A8, A9, (zq_g A10), (zq_g A11), A12, A13, A14, A15, A16, A17) e_p0 := by
  subst q_p0; have h : (zq_if (zq_in p0 (nat_lit 10))
        (zq_if (zq_in p0 (nat_lit 10))
        (zq_if (zq_in (zq_add (zq_mul (nat_lit 5) (zq_get A10 (zq_cl p0))) (zq_get A11 (zq_cl p0))) (nat_lit 25))
        (zq_fc (zq_get A4 (zq_cl (zq_add (zq_mul (nat_lit 5) (zq_get A10 (zq_cl p0))) (zq_get A11 (zq_cl p0))))) (fun y1 => kp y1)) false) false) false) = true := h
  exact zq_vi h rfl (by decide) (fun h => zq_vi h rfl (by decide) (fun h => zq_vi h (zq_hadd (zq_hmul rfl (zq_rd rfl)) (zq_rd rfl)) (by decide) (fun h => have h := zq_fe h; Eq.mpr (congrArg post (zq_rd (zq_hadd (zq_hmul rfl (zq_rd rfl)) (zq_rd rfl)))) (hp _ h))))
noncomputable def zb_X_findReaches_22 (kp : Nat → Bool) (x1 : Nat) (S2 : Nat) (A10 : Nat) (A11 : Nat) : Nat → Nat → Nat → Bool := fun fu => @Nat.rec (fun _ => Nat → Nat → Bool) (fun _ _ => false) (fun _ ih => fun x2 A9 =>
        zq_if (zq_le S2 x2)
        (zb_X_closeReaches (fun am689_33 => kp am689_33) A9)
        (zq_if (zq_eq (zq_and (zq_shr x1 x2) (nat_lit 1)) (nat_lit 0))
        (zq_fc (zq_add x2 (nat_lit 1)) (fun x2_59 => ih x2_59 A9))
        (zq_if (zq_in x2 (nat_lit 10))
        (zq_if (zq_in (zq_get A10 (zq_cl x2)) (nat_lit 5))
        (zq_if (zq_in x2 (nat_lit 10))
        (zq_if (zq_in (zq_get A10 (zq_cl x2)) (nat_lit 5))
        (zq_fc (zq_set A9 (zq_cl (zq_get A10 (zq_cl x2))) (zq_i8 (zq_or (zq_get A9 (zq_cl (zq_get A10 (zq_cl x2)))) (zq_shl (nat_lit 1) (zq_get A11 (zq_cl x2)))))) (fun a9_64 => zq_fc (zq_add x2 (nat_lit 1)) (fun x2_65 => ih x2_65 a9_64))) false) false) false) false))) fu
theorem zr_X_findReaches_22 {post : St2 → Prop} {kp : Nat → Bool} {x1 : Nat} {S2 : Nat} {A10 : Nat} {A11 : Nat} {S0 : Int32} {S1 : Int32} {A1 : Nat → Int32} {A2 : Nat → Int32} {A3 : Nat → Int32} {A4 : Nat → Int32} {A5 : Nat → Int32} {A6 : Nat → Int32} {A7 : Nat → Int32} {A8 : Nat → Int32} {A12 : Nat → Int32} {A13 : Nat → Int32} {A14 : Nat → Int32} {A15 : Nat → Int32} {A16 : Nat → Int32} {A17 : Nat → Int32} (hp : ∀ w11 : Nat, kp w11 = true → post (S0, S1, (nI S2), A1, A2, A3, A4, A5, A6, A7, A8, (zq_g w11), (zq_g A10), (zq_g A11), A12, A13, A14, A15, A16, A17)) (fu : Nat) : ∀ (x2 : Nat) (A9 : Nat) (e_x2 : Int32), zb_X_findReaches_22 kp x1 S2 A10 A11 fu x2 A9 = true → e_x2 = nI x2 → wX_findReaches_22 post (nI x1) S0 S1 (nI S2) fu e_x2 A1 A2 A3 A4 A5 A6 A7 A8 (zq_g A9) (zq_g A10) (zq_g A11) A12 A13 A14 A15 A16 A17 := by
  induction fu with
  | zero => intro x2 A9 e_x2 h q_x2; exact absurd h Bool.false_ne_true
  | succ n ih =>
    intro x2 A9 e_x2 h q_x2
    subst q_x2; have h : (zq_if (zq_le S2 x2)
        (zb_X_closeReaches (fun am689_33 => kp am689_33) A9)
        (zq_if (zq_eq (zq_and (zq_shr x1 x2) (nat_lit 1)) (nat_lit 0))
        (zq_fc (zq_add x2 (nat_lit 1)) (fun x2_59 => (zb_X_findReaches_22 kp x1 S2 A10 A11 n) x2_59 A9))
        (zq_if (zq_in x2 (nat_lit 10))
        (zq_if (zq_in (zq_get A10 (zq_cl x2)) (nat_lit 5))
        (zq_if (zq_in x2 (nat_lit 10))
        (zq_if (zq_in (zq_get A10 (zq_cl x2)) (nat_lit 5))
        (zq_fc (zq_set A9 (zq_cl (zq_get A10 (zq_cl x2))) (zq_i8 (zq_or (zq_get A9 (zq_cl (zq_get A10 (zq_cl x2)))) (zq_shl (nat_lit 1) (zq_get A11 (zq_cl x2)))))) (fun a9_64 => zq_fc (zq_add x2 (nat_lit 1)) (fun x2_65 => (zb_X_findReaches_22 kp x1 S2 A10 A11 n) x2_65 a9_64))) false) false) false) false))) = true := h
    exact zq_br h (zq_cle rfl rfl)
        (fun h => zs_X_closeReaches h (fun am689_33 h => hp _ h))
        (fun h => zq_br h (zq_ceq (zq_hand (zq_hshr rfl rfl) rfl) rfl)
        (fun h => zq_ly h (zq_hadd rfl rfl) (fun x2_59 h => ih _ _ _ h rfl))
        (fun h => zq_vi h rfl (by decide) (fun h => zq_vi h (zq_rd rfl) (by decide) (fun h => zq_vi h rfl (by decide) (fun h => zq_vi h (zq_rd rfl) (by decide) (fun h => zq_up h (zq_rd rfl) (zq_hi8 (zq_hor (zq_rd (zq_rd rfl)) (zq_hshl rfl (zq_rd rfl)))) (fun a9_64 h => zq_ly h (zq_hadd rfl rfl) (fun x2_65 h => ih _ _ _ h rfl))))))))
theorem zs_X_findReaches_22 {post : St2 → Prop} {kp : Nat → Bool} {x1 : Nat} {S2 : Nat} {A10 : Nat} {A11 : Nat} {x2 : Nat} {A9 : Nat} {S0 : Int32} {S1 : Int32} {A1 : Nat → Int32} {A2 : Nat → Int32} {A3 : Nat → Int32} {A4 : Nat → Int32} {A5 : Nat → Int32} {A6 : Nat → Int32} {A7 : Nat → Int32} {A8 : Nat → Int32} {A12 : Nat → Int32} {A13 : Nat → Int32} {A14 : Nat → Int32} {A15 : Nat → Int32} {A16 : Nat → Int32} {A17 : Nat → Int32} {e_x1 : Int32} {e_x2 : Int32} {fu : Nat} (h : zb_X_findReaches_22 kp x1 S2 A10 A11 fu x2 A9 = true) (q_x1 : e_x1 = nI x1) (q_x2 : e_x2 = nI x2) (hp : ∀ w11 : Nat, kp w11 = true → post (S0, S1, (nI S2), A1, A2, A3, A4, A5, A6, A7, A8, (zq_g w11), (zq_g A10), (zq_g A11), A12, A13, A14, A15, A16, A17)) : wX_findReaches_22 post e_x1 S0 S1 (nI S2) fu e_x2 A1 A2 A3 A4 A5 A6 A7 A8 (zq_g A9) (zq_g A10) (zq_g A11) A12 A13 A14 A15 A16 A17 := by
  subst q_x1; exact zr_X_findReaches_22 hp fu _ _ _ h q_x2
noncomputable def zb_X_findReaches_2 (kp : Nat → Bool) (x1 : Nat) (S2 : Nat) (A10 : Nat) (A11 : Nat) : Nat → Nat → Nat → Bool := fun fu => @Nat.rec (fun _ => Nat → Nat → Bool) (fun _ _ => false) (fun _ ih => fun x2 A9 =>
        zq_if (zq_le (nat_lit 5) x2)
        (zb_X_findReaches_22 kp x1 S2 A10 A11 40 (nat_lit 0) A9)
        (zq_if (zq_in x2 (nat_lit 5))
        (zq_fc (zq_set A9 (zq_cl x2) (nat_lit 0)) (fun a9_67 => zq_fc (zq_add x2 (nat_lit 1)) (fun x2_68 => ih x2_68 a9_67))) false)) fu
theorem zr_X_findReaches_2 {post : St2 → Prop} {kp : Nat → Bool} {x1 : Nat} {S2 : Nat} {A10 : Nat} {A11 : Nat} {S0 : Int32} {S1 : Int32} {A1 : Nat → Int32} {A2 : Nat → Int32} {A3 : Nat → Int32} {A4 : Nat → Int32} {A5 : Nat → Int32} {A6 : Nat → Int32} {A7 : Nat → Int32} {A8 : Nat → Int32} {A12 : Nat → Int32} {A13 : Nat → Int32} {A14 : Nat → Int32} {A15 : Nat → Int32} {A16 : Nat → Int32} {A17 : Nat → Int32} (hp : ∀ w11 : Nat, kp w11 = true → post (S0, S1, (nI S2), A1, A2, A3, A4, A5, A6, A7, A8, (zq_g w11), (zq_g A10), (zq_g A11), A12, A13, A14, A15, A16, A17)) (fu : Nat) : ∀ (x2 : Nat) (A9 : Nat) (e_x2 : Int32), zb_X_findReaches_2 kp x1 S2 A10 A11 fu x2 A9 = true → e_x2 = nI x2 → wX_findReaches_2 post (nI x1) S0 S1 (nI S2) fu e_x2 A1 A2 A3 A4 A5 A6 A7 A8 (zq_g A9) (zq_g A10) (zq_g A11) A12 A13 A14 A15 A16 A17 := by
  induction fu with
  | zero => intro x2 A9 e_x2 h q_x2; exact absurd h Bool.false_ne_true
  | succ n ih =>
    intro x2 A9 e_x2 h q_x2
    subst q_x2; have h : (zq_if (zq_le (nat_lit 5) x2)
        (zb_X_findReaches_22 kp x1 S2 A10 A11 40 (nat_lit 0) A9)
        (zq_if (zq_in x2 (nat_lit 5))
        (zq_fc (zq_set A9 (zq_cl x2) (nat_lit 0)) (fun a9_67 => zq_fc (zq_add x2 (nat_lit 1)) (fun x2_68 => (zb_X_findReaches_2 kp x1 S2 A10 A11 n) x2_68 a9_67))) false)) = true := h
    exact zq_br h (zq_cle rfl rfl)
        (fun h => Exists.intro 40 (zs_X_findReaches_22 h rfl rfl hp))
        (fun h => zq_vi h rfl (by decide) (fun h => zq_up h rfl rfl (fun a9_67 h => zq_ly h (zq_hadd rfl rfl) (fun x2_68 h => ih _ _ _ h rfl))))
theorem zs_X_findReaches_2 {post : St2 → Prop} {kp : Nat → Bool} {x1 : Nat} {S2 : Nat} {A10 : Nat} {A11 : Nat} {x2 : Nat} {A9 : Nat} {S0 : Int32} {S1 : Int32} {A1 : Nat → Int32} {A2 : Nat → Int32} {A3 : Nat → Int32} {A4 : Nat → Int32} {A5 : Nat → Int32} {A6 : Nat → Int32} {A7 : Nat → Int32} {A8 : Nat → Int32} {A12 : Nat → Int32} {A13 : Nat → Int32} {A14 : Nat → Int32} {A15 : Nat → Int32} {A16 : Nat → Int32} {A17 : Nat → Int32} {e_x1 : Int32} {e_x2 : Int32} {fu : Nat} (h : zb_X_findReaches_2 kp x1 S2 A10 A11 fu x2 A9 = true) (q_x1 : e_x1 = nI x1) (q_x2 : e_x2 = nI x2) (hp : ∀ w11 : Nat, kp w11 = true → post (S0, S1, (nI S2), A1, A2, A3, A4, A5, A6, A7, A8, (zq_g w11), (zq_g A10), (zq_g A11), A12, A13, A14, A15, A16, A17)) : wX_findReaches_2 post e_x1 S0 S1 (nI S2) fu e_x2 A1 A2 A3 A4 A5 A6 A7 A8 (zq_g A9) (zq_g A10) (zq_g A11) A12 A13 A14 A15 A16 A17 := by
  subst q_x1; exact zr_X_findReaches_2 hp fu _ _ _ h q_x2
noncomputable def zb_X_findReaches (kp : Nat → Bool) (p0 : Nat) (S2 : Nat) (A9 : Nat) (A10 : Nat) (A11 : Nat) : Bool :=
        zb_X_findReaches_2 kp p0 S2 A10 A11 40 (nat_lit 0) A9
theorem zs_X_findReaches {post : St2 → Prop} {kp : Nat → Bool} {p0 : Nat} {S2 : Nat} {A9 : Nat} {A10 : Nat} {A11 : Nat} {S0 : Int32} {S1 : Int32} {A1 : Nat → Int32} {A2 : Nat → Int32} {A3 : Nat → Int32} {A4 : Nat → Int32} {A5 : Nat → Int32} {A6 : Nat → Int32} {A7 : Nat → Int32} {A8 : Nat → Int32} {A12 : Nat → Int32} {A13 : Nat → Int32} {A14 : Nat → Int32} {A15 : Nat → Int32} {A16 : Nat → Int32} {A17 : Nat → Int32} {e_p0 : Int32} (h : zb_X_findReaches kp p0 S2 A9 A10 A11 = true) (q_p0 : e_p0 = nI p0) (hp : ∀ w11 : Nat, kp w11 = true → post (S0, S1, (nI S2), A1, A2, A3, A4, A5, A6, A7, A8, (zq_g w11), (zq_g A10), (zq_g A11), A12, A13, A14, A15, A16, A17)) : wpX_findReaches post (S0, S1, (nI S2), A1, A2, A3, A4, A5, A6, A7, A8, (zq_g A9), (zq_g A10), (zq_g A11), A12, A13, A14, A15, A16, A17) e_p0 := by
  subst q_p0; have h : (zb_X_findReaches_2 kp p0 S2 A10 A11 40 (nat_lit 0) A9) = true := h
  exact Exists.intro 40 (zs_X_findReaches_2 h rfl rfl hp)
noncomputable def zb_X_isComplete_65 (kp : Nat → Nat → Bool) (kJ36 : Nat → Bool) (x1 : Nat) (x2 : Nat) (x3 : Nat) (z0 : Nat) (S2 : Nat) (A9 : Nat) (A10 : Nat) (A11 : Nat) : Bool :=
        zq_if (zq_eq z0 (nat_lit 0))
        (zq_fc (zq_add x3 (nat_lit 1)) (fun x3_60 => kJ36 x3_60))
        (zq_if (zq_in x3 (nat_lit 10))
        (zq_if (zq_in (zq_get A11 (zq_cl x3)) (nat_lit 5))
        (zq_if (zq_in x3 (nat_lit 10))
        (zq_fc (zq_get A9 (zq_cl (zq_get A11 (zq_cl x3)))) (fun y1 => zq_fc (zq_get A10 (zq_cl x3)) (fun y2 => zb_X_isIn (fun r_64 => zq_if (zq_eq r_64 (nat_lit 0))
        (kp (nat_lit 0) A9)
        (zq_fc (zq_add x3 (nat_lit 1)) (fun x3_66 => kJ36 x3_66))) y1 y2))) false) false) false)
theorem zs_X_isComplete_65 {post : Int32 → St2 → Prop} {J36 : Int32 → Prop} {kp : Nat → Nat → Bool} {kJ36 : Nat → Bool} {x1 : Nat} {x2 : Nat} {x3 : Nat} {z0 : Nat} {S2 : Nat} {A9 : Nat} {A10 : Nat} {A11 : Nat} {S0 : Int32} {S1 : Int32} {A1 : Nat → Int32} {A2 : Nat → Int32} {A3 : Nat → Int32} {A4 : Nat → Int32} {A5 : Nat → Int32} {A6 : Nat → Int32} {A7 : Nat → Int32} {A8 : Nat → Int32} {A12 : Nat → Int32} {A13 : Nat → Int32} {A14 : Nat → Int32} {A15 : Nat → Int32} {A16 : Nat → Int32} {A17 : Nat → Int32} {e_x1 : Int32} {e_x2 : Int32} {e_x3 : Int32} {e_z0 : Int32} (h : zb_X_isComplete_65 kp kJ36 x1 x2 x3 z0 S2 A9 A10 A11 = true) (q_x1 : e_x1 = nI x1) (q_x2 : e_x2 = nI x2) (q_x3 : e_x3 = nI x3) (q_z0 : e_z0 = nI z0) (hp : ∀ r w11 : Nat, kp r w11 = true → post (nI r) (S0, S1, (nI S2), A1, A2, A3, A4, A5, A6, A7, A8, (zq_g w11), (zq_g A10), (zq_g A11), A12, A13, A14, A15, A16, A17)) (hJ36 : ∀ y_x3 : Nat, kJ36 y_x3 = true → J36 (nI y_x3)) : wX_isComplete_65 post J36 e_x1 e_x2 e_x3 e_z0 S0 S1 (nI S2) A1 A2 A3 A4 A5 A6 A7 A8 (zq_g A9) (zq_g A10) (zq_g A11) A12 A13 A14 A15 A16 A17 := by
  subst q_x1; subst q_x2; subst q_x3; subst q_z0; have h : (zq_if (zq_eq z0 (nat_lit 0))
        (zq_fc (zq_add x3 (nat_lit 1)) (fun x3_60 => kJ36 x3_60))
        (zq_if (zq_in x3 (nat_lit 10))
        (zq_if (zq_in (zq_get A11 (zq_cl x3)) (nat_lit 5))
        (zq_if (zq_in x3 (nat_lit 10))
        (zq_fc (zq_get A9 (zq_cl (zq_get A11 (zq_cl x3)))) (fun y1 => zq_fc (zq_get A10 (zq_cl x3)) (fun y2 => zb_X_isIn (fun r_64 => zq_if (zq_eq r_64 (nat_lit 0))
        (kp (nat_lit 0) A9)
        (zq_fc (zq_add x3 (nat_lit 1)) (fun x3_66 => kJ36 x3_66))) y1 y2))) false) false) false)) = true := h
  exact zq_br h (zq_ceq rfl rfl)
        (fun h => zq_ly h (zq_hadd rfl rfl) (fun x3_60 h => hJ36 _ h))
        (fun h => zq_vi h rfl (by decide) (fun h => zq_vi h (zq_rd rfl) (by decide) (fun h => zq_vi h rfl (by decide) (fun h => have h := zq_fe h; have h := zq_fe h; zs_X_isIn h (zq_rd (zq_rd rfl)) (zq_rd rfl) (fun r_64 h => zq_br h (zq_ceq rfl rfl)
        (fun h => hp _ _ h)
        (fun h => zq_ly h (zq_hadd rfl rfl) (fun x3_66 h => hJ36 _ h)))))))
noncomputable def zb_X_isComplete_64 (kp : Nat → Nat → Bool) (kJ36 : Nat → Bool) (x1 : Nat) (x2 : Nat) (x3 : Nat) (S2 : Nat) (A9 : Nat) (A10 : Nat) (A11 : Nat) : Bool :=
        zb_X_isComplete_65 kp kJ36 x1 x2 x3 (nat_lit 0) S2 A9 A10 A11
theorem zs_X_isComplete_64 {post : Int32 → St2 → Prop} {J36 : Int32 → Prop} {kp : Nat → Nat → Bool} {kJ36 : Nat → Bool} {x1 : Nat} {x2 : Nat} {x3 : Nat} {S2 : Nat} {A9 : Nat} {A10 : Nat} {A11 : Nat} {S0 : Int32} {S1 : Int32} {A1 : Nat → Int32} {A2 : Nat → Int32} {A3 : Nat → Int32} {A4 : Nat → Int32} {A5 : Nat → Int32} {A6 : Nat → Int32} {A7 : Nat → Int32} {A8 : Nat → Int32} {A12 : Nat → Int32} {A13 : Nat → Int32} {A14 : Nat → Int32} {A15 : Nat → Int32} {A16 : Nat → Int32} {A17 : Nat → Int32} {e_x1 : Int32} {e_x2 : Int32} {e_x3 : Int32} (h : zb_X_isComplete_64 kp kJ36 x1 x2 x3 S2 A9 A10 A11 = true) (q_x1 : e_x1 = nI x1) (q_x2 : e_x2 = nI x2) (q_x3 : e_x3 = nI x3) (hp : ∀ r w11 : Nat, kp r w11 = true → post (nI r) (S0, S1, (nI S2), A1, A2, A3, A4, A5, A6, A7, A8, (zq_g w11), (zq_g A10), (zq_g A11), A12, A13, A14, A15, A16, A17)) (hJ36 : ∀ y_x3 : Nat, kJ36 y_x3 = true → J36 (nI y_x3)) : wX_isComplete_64 post J36 e_x1 e_x2 e_x3 S0 S1 (nI S2) A1 A2 A3 A4 A5 A6 A7 A8 (zq_g A9) (zq_g A10) (zq_g A11) A12 A13 A14 A15 A16 A17 := by
  subst q_x1; subst q_x2; subst q_x3; have h : (zb_X_isComplete_65 kp kJ36 x1 x2 x3 (nat_lit 0) S2 A9 A10 A11) = true := h
  exact zs_X_isComplete_65 h rfl rfl rfl rfl hp hJ36
noncomputable def zb_X_isComplete_36 (kp : Nat → Nat → Bool) (x1 : Nat) (x2 : Nat) (S2 : Nat) (A9 : Nat) (A10 : Nat) (A11 : Nat) : Nat → Nat → Bool := fun fu => @Nat.rec (fun _ => Nat → Bool) (fun _ => false) (fun _ ih => fun x3 =>
        zq_if (zq_le S2 x3)
        (kp (nat_lit 1) A9)
        (zq_if (zq_eq (zq_and (zq_shr x2 x3) (nat_lit 1)) (nat_lit 0))
        (zb_X_isComplete_64 kp ih x1 x2 x3 S2 A9 A10 A11)
        (zq_if (zq_eq (zq_and (zq_shr x1 x3) (nat_lit 1)) (nat_lit 0))
        (zb_X_isComplete_65 kp ih x1 x2 x3 (nat_lit 1) S2 A9 A10 A11)
        (zb_X_isComplete_64 kp ih x1 x2 x3 S2 A9 A10 A11)))) fu
theorem zr_X_isComplete_36 {post : Int32 → St2 → Prop} {kp : Nat → Nat → Bool} {x1 : Nat} {x2 : Nat} {S2 : Nat} {A9 : Nat} {A10 : Nat} {A11 : Nat} {S0 : Int32} {S1 : Int32} {A1 : Nat → Int32} {A2 : Nat → Int32} {A3 : Nat → Int32} {A4 : Nat → Int32} {A5 : Nat → Int32} {A6 : Nat → Int32} {A7 : Nat → Int32} {A8 : Nat → Int32} {A12 : Nat → Int32} {A13 : Nat → Int32} {A14 : Nat → Int32} {A15 : Nat → Int32} {A16 : Nat → Int32} {A17 : Nat → Int32} (hp : ∀ r w11 : Nat, kp r w11 = true → post (nI r) (S0, S1, (nI S2), A1, A2, A3, A4, A5, A6, A7, A8, (zq_g w11), (zq_g A10), (zq_g A11), A12, A13, A14, A15, A16, A17)) (fu : Nat) : ∀ (x3 : Nat) (e_x3 : Int32), zb_X_isComplete_36 kp x1 x2 S2 A9 A10 A11 fu x3 = true → e_x3 = nI x3 → wX_isComplete_36 post (nI x1) (nI x2) S0 S1 (nI S2) A1 A2 A3 A4 A5 A6 A7 A8 (zq_g A9) (zq_g A10) (zq_g A11) A12 A13 A14 A15 A16 A17 fu e_x3 := by
  induction fu with
  | zero => intro x3 e_x3 h q_x3; exact absurd h Bool.false_ne_true
  | succ n ih =>
    intro x3 e_x3 h q_x3
    subst q_x3; have h : (zq_if (zq_le S2 x3)
        (kp (nat_lit 1) A9)
        (zq_if (zq_eq (zq_and (zq_shr x2 x3) (nat_lit 1)) (nat_lit 0))
        (zb_X_isComplete_64 kp (zb_X_isComplete_36 kp x1 x2 S2 A9 A10 A11 n) x1 x2 x3 S2 A9 A10 A11)
        (zq_if (zq_eq (zq_and (zq_shr x1 x3) (nat_lit 1)) (nat_lit 0))
        (zb_X_isComplete_65 kp (zb_X_isComplete_36 kp x1 x2 S2 A9 A10 A11 n) x1 x2 x3 (nat_lit 1) S2 A9 A10 A11)
        (zb_X_isComplete_64 kp (zb_X_isComplete_36 kp x1 x2 S2 A9 A10 A11 n) x1 x2 x3 S2 A9 A10 A11)))) = true := h
    exact zq_br h (zq_cle rfl rfl)
        (fun h => hp _ _ h)
        (fun h => zq_br h (zq_ceq (zq_hand (zq_hshr rfl rfl) rfl) rfl)
        (fun h => zs_X_isComplete_64 h rfl rfl rfl hp (fun y0 h => ih y0 _ h rfl))
        (fun h => zq_br h (zq_ceq (zq_hand (zq_hshr rfl rfl) rfl) rfl)
        (fun h => zs_X_isComplete_65 h rfl rfl rfl rfl hp (fun y0 h => ih y0 _ h rfl))
        (fun h => zs_X_isComplete_64 h rfl rfl rfl hp (fun y0 h => ih y0 _ h rfl))))
theorem zs_X_isComplete_36 {post : Int32 → St2 → Prop} {kp : Nat → Nat → Bool} {x1 : Nat} {x2 : Nat} {S2 : Nat} {A9 : Nat} {A10 : Nat} {A11 : Nat} {x3 : Nat} {S0 : Int32} {S1 : Int32} {A1 : Nat → Int32} {A2 : Nat → Int32} {A3 : Nat → Int32} {A4 : Nat → Int32} {A5 : Nat → Int32} {A6 : Nat → Int32} {A7 : Nat → Int32} {A8 : Nat → Int32} {A12 : Nat → Int32} {A13 : Nat → Int32} {A14 : Nat → Int32} {A15 : Nat → Int32} {A16 : Nat → Int32} {A17 : Nat → Int32} {e_x1 : Int32} {e_x2 : Int32} {e_x3 : Int32} {fu : Nat} (h : zb_X_isComplete_36 kp x1 x2 S2 A9 A10 A11 fu x3 = true) (q_x1 : e_x1 = nI x1) (q_x2 : e_x2 = nI x2) (q_x3 : e_x3 = nI x3) (hp : ∀ r w11 : Nat, kp r w11 = true → post (nI r) (S0, S1, (nI S2), A1, A2, A3, A4, A5, A6, A7, A8, (zq_g w11), (zq_g A10), (zq_g A11), A12, A13, A14, A15, A16, A17)) : wX_isComplete_36 post e_x1 e_x2 S0 S1 (nI S2) A1 A2 A3 A4 A5 A6 A7 A8 (zq_g A9) (zq_g A10) (zq_g A11) A12 A13 A14 A15 A16 A17 fu e_x3 := by
  subst q_x1; subst q_x2; exact zr_X_isComplete_36 hp fu _ _ h q_x3
noncomputable def zb_X_isComplete_7 (kp : Nat → Nat → Bool) (x1 : Nat) (x2 : Nat) (S2 : Nat) (A9 : Nat) (A10 : Nat) (A11 : Nat) : Nat → Nat → Bool := fun fu => @Nat.rec (fun _ => Nat → Bool) (fun _ => false) (fun _ ih => fun x3 =>
        zq_if (zq_le (nat_lit 5) x3)
        (zb_X_isComplete_36 kp x1 x2 S2 A9 A10 A11 40 (nat_lit 0))
        (zq_if (zq_in x3 (nat_lit 5))
        (zq_fc (zq_get A9 (zq_cl x3)) (fun y1 => zb_X_isIn (fun r_69 => zq_if (zq_eq r_69 (nat_lit 0))
        (zq_fc (zq_add x3 (nat_lit 1)) (fun x3_71 => ih x3_71))
        (kp (nat_lit 0) A9)) y1 x3)) false)) fu
theorem zr_X_isComplete_7 {post : Int32 → St2 → Prop} {kp : Nat → Nat → Bool} {x1 : Nat} {x2 : Nat} {S2 : Nat} {A9 : Nat} {A10 : Nat} {A11 : Nat} {S0 : Int32} {S1 : Int32} {A1 : Nat → Int32} {A2 : Nat → Int32} {A3 : Nat → Int32} {A4 : Nat → Int32} {A5 : Nat → Int32} {A6 : Nat → Int32} {A7 : Nat → Int32} {A8 : Nat → Int32} {A12 : Nat → Int32} {A13 : Nat → Int32} {A14 : Nat → Int32} {A15 : Nat → Int32} {A16 : Nat → Int32} {A17 : Nat → Int32} (hp : ∀ r w11 : Nat, kp r w11 = true → post (nI r) (S0, S1, (nI S2), A1, A2, A3, A4, A5, A6, A7, A8, (zq_g w11), (zq_g A10), (zq_g A11), A12, A13, A14, A15, A16, A17)) (fu : Nat) : ∀ (x3 : Nat) (e_x3 : Int32), zb_X_isComplete_7 kp x1 x2 S2 A9 A10 A11 fu x3 = true → e_x3 = nI x3 → wX_isComplete_7 post (nI x1) (nI x2) S0 S1 (nI S2) A1 A2 A3 A4 A5 A6 A7 A8 (zq_g A9) (zq_g A10) (zq_g A11) A12 A13 A14 A15 A16 A17 fu e_x3 := by
  induction fu with
  | zero => intro x3 e_x3 h q_x3; exact absurd h Bool.false_ne_true
  | succ n ih =>
    intro x3 e_x3 h q_x3
    subst q_x3; have h : (zq_if (zq_le (nat_lit 5) x3)
        (zb_X_isComplete_36 kp x1 x2 S2 A9 A10 A11 40 (nat_lit 0))
        (zq_if (zq_in x3 (nat_lit 5))
        (zq_fc (zq_get A9 (zq_cl x3)) (fun y1 => zb_X_isIn (fun r_69 => zq_if (zq_eq r_69 (nat_lit 0))
        (zq_fc (zq_add x3 (nat_lit 1)) (fun x3_71 => (zb_X_isComplete_7 kp x1 x2 S2 A9 A10 A11 n) x3_71))
        (kp (nat_lit 0) A9)) y1 x3)) false)) = true := h
    exact zq_br h (zq_cle rfl rfl)
        (fun h => Exists.intro 40 (zs_X_isComplete_36 h rfl rfl rfl hp))
        (fun h => zq_vi h rfl (by decide) (fun h => have h := zq_fe h; zs_X_isIn h (zq_rd rfl) rfl (fun r_69 h => zq_br h (zq_ceq rfl rfl)
        (fun h => zq_ly h (zq_hadd rfl rfl) (fun x3_71 h => ih _ _ h rfl))
        (fun h => hp _ _ h))))
theorem zs_X_isComplete_7 {post : Int32 → St2 → Prop} {kp : Nat → Nat → Bool} {x1 : Nat} {x2 : Nat} {S2 : Nat} {A9 : Nat} {A10 : Nat} {A11 : Nat} {x3 : Nat} {S0 : Int32} {S1 : Int32} {A1 : Nat → Int32} {A2 : Nat → Int32} {A3 : Nat → Int32} {A4 : Nat → Int32} {A5 : Nat → Int32} {A6 : Nat → Int32} {A7 : Nat → Int32} {A8 : Nat → Int32} {A12 : Nat → Int32} {A13 : Nat → Int32} {A14 : Nat → Int32} {A15 : Nat → Int32} {A16 : Nat → Int32} {A17 : Nat → Int32} {e_x1 : Int32} {e_x2 : Int32} {e_x3 : Int32} {fu : Nat} (h : zb_X_isComplete_7 kp x1 x2 S2 A9 A10 A11 fu x3 = true) (q_x1 : e_x1 = nI x1) (q_x2 : e_x2 = nI x2) (q_x3 : e_x3 = nI x3) (hp : ∀ r w11 : Nat, kp r w11 = true → post (nI r) (S0, S1, (nI S2), A1, A2, A3, A4, A5, A6, A7, A8, (zq_g w11), (zq_g A10), (zq_g A11), A12, A13, A14, A15, A16, A17)) : wX_isComplete_7 post e_x1 e_x2 S0 S1 (nI S2) A1 A2 A3 A4 A5 A6 A7 A8 (zq_g A9) (zq_g A10) (zq_g A11) A12 A13 A14 A15 A16 A17 fu e_x3 := by
  subst q_x1; subst q_x2; exact zr_X_isComplete_7 hp fu _ _ h q_x3
noncomputable def zb_X_isComplete (kp : Nat → Nat → Bool) (p0 : Nat) (p1 : Nat) (S2 : Nat) (A9 : Nat) (A10 : Nat) (A11 : Nat) : Bool :=
        zb_X_findReaches (fun am29_31 => zb_X_isComplete_7 kp p0 p1 S2 am29_31 A10 A11 40 (nat_lit 0)) p0 S2 A9 A10 A11
theorem zs_X_isComplete {post : Int32 → St2 → Prop} {kp : Nat → Nat → Bool} {p0 : Nat} {p1 : Nat} {S2 : Nat} {A9 : Nat} {A10 : Nat} {A11 : Nat} {S0 : Int32} {S1 : Int32} {A1 : Nat → Int32} {A2 : Nat → Int32} {A3 : Nat → Int32} {A4 : Nat → Int32} {A5 : Nat → Int32} {A6 : Nat → Int32} {A7 : Nat → Int32} {A8 : Nat → Int32} {A12 : Nat → Int32} {A13 : Nat → Int32} {A14 : Nat → Int32} {A15 : Nat → Int32} {A16 : Nat → Int32} {A17 : Nat → Int32} {e_p0 : Int32} {e_p1 : Int32} (h : zb_X_isComplete kp p0 p1 S2 A9 A10 A11 = true) (q_p0 : e_p0 = nI p0) (q_p1 : e_p1 = nI p1) (hp : ∀ r w11 : Nat, kp r w11 = true → post (nI r) (S0, S1, (nI S2), A1, A2, A3, A4, A5, A6, A7, A8, (zq_g w11), (zq_g A10), (zq_g A11), A12, A13, A14, A15, A16, A17)) : wpX_isComplete post (S0, S1, (nI S2), A1, A2, A3, A4, A5, A6, A7, A8, (zq_g A9), (zq_g A10), (zq_g A11), A12, A13, A14, A15, A16, A17) e_p0 e_p1 := by
  subst q_p0; subst q_p1; have h : (zb_X_findReaches (fun am29_31 => zb_X_isComplete_7 kp p0 p1 S2 am29_31 A10 A11 40 (nat_lit 0)) p0 S2 A9 A10 A11) = true := h
  exact zs_X_findReaches h rfl (fun am29_31 h => Exists.intro 40 (zs_X_isComplete_7 h rfl rfl rfl hp))
noncomputable def zb_X_extend_39 (kp : Nat → Nat → Bool) (kJ5 : Nat → Nat → Nat → Nat → Bool) (x1 : Nat) (x2 : Nat) (x3 : Nat) (z0 : Nat) (S2 : Nat) (A9 : Nat) (A10 : Nat) (A11 : Nat) (A13 : Nat) : Bool :=
        zq_fc (zq_and (zq_sub x3 (nat_lit 1)) x2) (fun x3_59 => kJ5 x3_59 z0 A9 A13)
theorem zs_X_extend_39 {post : St2 → Prop} {J5 : Int32 → Int32 → Int32 → Int32 → Int32 → (Nat → Int32) → (Nat → Int32) → (Nat → Int32) → (Nat → Int32) → (Nat → Int32) → (Nat → Int32) → (Nat → Int32) → (Nat → Int32) → (Nat → Int32) → (Nat → Int32) → (Nat → Int32) → (Nat → Int32) → (Nat → Int32) → (Nat → Int32) → (Nat → Int32) → (Nat → Int32) → (Nat → Int32) → Prop} {kp : Nat → Nat → Bool} {kJ5 : Nat → Nat → Nat → Nat → Bool} {x1 : Nat} {x2 : Nat} {x3 : Nat} {z0 : Nat} {S2 : Nat} {A9 : Nat} {A10 : Nat} {A11 : Nat} {A13 : Nat} {S0 : Int32} {S1 : Int32} {A1 : Nat → Int32} {A2 : Nat → Int32} {A3 : Nat → Int32} {A4 : Nat → Int32} {A5 : Nat → Int32} {A6 : Nat → Int32} {A7 : Nat → Int32} {A8 : Nat → Int32} {A12 : Nat → Int32} {A14 : Nat → Int32} {A15 : Nat → Int32} {A16 : Nat → Int32} {A17 : Nat → Int32} {e_x1 : Int32} {e_x2 : Int32} {e_x3 : Int32} {e_z0 : Int32} (h : zb_X_extend_39 kp kJ5 x1 x2 x3 z0 S2 A9 A10 A11 A13 = true) (q_x1 : e_x1 = nI x1) (q_x2 : e_x2 = nI x2) (q_x3 : e_x3 = nI x3) (q_z0 : e_z0 = nI z0) (hp : ∀ w11 w15 : Nat, kp w11 w15 = true → post (S0, S1, (nI S2), A1, A2, A3, A4, A5, A6, A7, A8, (zq_g w11), (zq_g A10), (zq_g A11), A12, (zq_g w15), A14, A15, A16, A17)) (hJ5 : ∀ y_x3 y_x4 v11 v15 : Nat, kJ5 y_x3 y_x4 v11 v15 = true → J5 (nI y_x3) (nI y_x4) S0 S1 (nI S2) A1 A2 A3 A4 A5 A6 A7 A8 (zq_g v11) (zq_g A10) (zq_g A11) A12 (zq_g v15) A14 A15 A16 A17) : wX_extend_39 post J5 e_x1 e_x2 e_x3 e_z0 S0 S1 (nI S2) A1 A2 A3 A4 A5 A6 A7 A8 (zq_g A9) (zq_g A10) (zq_g A11) A12 (zq_g A13) A14 A15 A16 A17 := by
  subst q_x1; subst q_x2; subst q_x3; subst q_z0; have h : (zq_fc (zq_and (zq_sub x3 (nat_lit 1)) x2) (fun x3_59 => kJ5 x3_59 z0 A9 A13)) = true := h
  exact zq_ly h (zq_hand (zq_hsub rfl rfl) rfl) (fun x3_59 h => hJ5 _ _ _ _ h)
noncomputable def zb_X_extend_30 (kp : Nat → Nat → Bool) (kJ5 : Nat → Nat → Nat → Nat → Bool) (x1 : Nat) (x2 : Nat) (x3 : Nat) (S2 : Nat) (A9 : Nat) (A10 : Nat) (A11 : Nat) (A13 : Nat) : Bool :=
        zq_if (zq_eq x3 (nat_lit 0))
        (zb_X_extend_39 kp kJ5 x1 x2 x3 (nat_lit 0) S2 A9 A10 A11 A13)
        (zb_X_extend_39 kp kJ5 x1 x2 x3 (nat_lit 1) S2 A9 A10 A11 A13)
theorem zs_X_extend_30 {post : St2 → Prop} {J5 : Int32 → Int32 → Int32 → Int32 → Int32 → (Nat → Int32) → (Nat → Int32) → (Nat → Int32) → (Nat → Int32) → (Nat → Int32) → (Nat → Int32) → (Nat → Int32) → (Nat → Int32) → (Nat → Int32) → (Nat → Int32) → (Nat → Int32) → (Nat → Int32) → (Nat → Int32) → (Nat → Int32) → (Nat → Int32) → (Nat → Int32) → (Nat → Int32) → Prop} {kp : Nat → Nat → Bool} {kJ5 : Nat → Nat → Nat → Nat → Bool} {x1 : Nat} {x2 : Nat} {x3 : Nat} {S2 : Nat} {A9 : Nat} {A10 : Nat} {A11 : Nat} {A13 : Nat} {S0 : Int32} {S1 : Int32} {A1 : Nat → Int32} {A2 : Nat → Int32} {A3 : Nat → Int32} {A4 : Nat → Int32} {A5 : Nat → Int32} {A6 : Nat → Int32} {A7 : Nat → Int32} {A8 : Nat → Int32} {A12 : Nat → Int32} {A14 : Nat → Int32} {A15 : Nat → Int32} {A16 : Nat → Int32} {A17 : Nat → Int32} {e_x1 : Int32} {e_x2 : Int32} {e_x3 : Int32} (h : zb_X_extend_30 kp kJ5 x1 x2 x3 S2 A9 A10 A11 A13 = true) (q_x1 : e_x1 = nI x1) (q_x2 : e_x2 = nI x2) (q_x3 : e_x3 = nI x3) (hp : ∀ w11 w15 : Nat, kp w11 w15 = true → post (S0, S1, (nI S2), A1, A2, A3, A4, A5, A6, A7, A8, (zq_g w11), (zq_g A10), (zq_g A11), A12, (zq_g w15), A14, A15, A16, A17)) (hJ5 : ∀ y_x3 y_x4 v11 v15 : Nat, kJ5 y_x3 y_x4 v11 v15 = true → J5 (nI y_x3) (nI y_x4) S0 S1 (nI S2) A1 A2 A3 A4 A5 A6 A7 A8 (zq_g v11) (zq_g A10) (zq_g A11) A12 (zq_g v15) A14 A15 A16 A17) : wX_extend_30 post J5 e_x1 e_x2 e_x3 S0 S1 (nI S2) A1 A2 A3 A4 A5 A6 A7 A8 (zq_g A9) (zq_g A10) (zq_g A11) A12 (zq_g A13) A14 A15 A16 A17 := by
  subst q_x1; subst q_x2; subst q_x3; have h : (zq_if (zq_eq x3 (nat_lit 0))
        (zb_X_extend_39 kp kJ5 x1 x2 x3 (nat_lit 0) S2 A9 A10 A11 A13)
        (zb_X_extend_39 kp kJ5 x1 x2 x3 (nat_lit 1) S2 A9 A10 A11 A13)) = true := h
  exact zq_br h (zq_ceq rfl rfl)
        (fun h => zs_X_extend_39 h rfl rfl rfl rfl hp hJ5)
        (fun h => zs_X_extend_39 h rfl rfl rfl rfl hp hJ5)
noncomputable def zb_X_extend_5 (kp : Nat → Nat → Bool) (x1 : Nat) (x2 : Nat) (S2 : Nat) (A10 : Nat) (A11 : Nat) : Nat → Nat → Nat → Nat → Nat → Bool := fun fu => @Nat.rec (fun _ => Nat → Nat → Nat → Nat → Bool) (fun _ _ _ _ => false) (fun _ ih => fun x3 x4 A9 A13 =>
        zq_if (zq_eq x4 (nat_lit 0))
        (kp A9 A13)
        (zq_fc (zq_or x1 x3) (fun y1 => zb_X_isComplete (fun r_2 am159_32 => zq_if (zq_eq r_2 (nat_lit 0))
        (zb_X_extend_30 kp ih x1 x2 x3 S2 am159_32 A10 A11 A13)
        (zq_if (zq_in (zq_or x1 x3) (nat_lit 1024))
        (zq_fc (zq_set A13 (zq_cl (zq_or x1 x3)) (nat_lit 1)) (fun am1513_61 => zb_X_extend_30 kp ih x1 x2 x3 S2 am159_32 A10 A11 am1513_61)) false)) y1 x2 S2 A9 A10 A11))) fu
theorem zr_X_extend_5 {post : St2 → Prop} {kp : Nat → Nat → Bool} {x1 : Nat} {x2 : Nat} {S2 : Nat} {A10 : Nat} {A11 : Nat} {S0 : Int32} {S1 : Int32} {A1 : Nat → Int32} {A2 : Nat → Int32} {A3 : Nat → Int32} {A4 : Nat → Int32} {A5 : Nat → Int32} {A6 : Nat → Int32} {A7 : Nat → Int32} {A8 : Nat → Int32} {A12 : Nat → Int32} {A14 : Nat → Int32} {A15 : Nat → Int32} {A16 : Nat → Int32} {A17 : Nat → Int32} (hp : ∀ w11 w15 : Nat, kp w11 w15 = true → post (S0, S1, (nI S2), A1, A2, A3, A4, A5, A6, A7, A8, (zq_g w11), (zq_g A10), (zq_g A11), A12, (zq_g w15), A14, A15, A16, A17)) (fu : Nat) : ∀ (x3 : Nat) (x4 : Nat) (A9 : Nat) (A13 : Nat) (e_x3 : Int32) (e_x4 : Int32), zb_X_extend_5 kp x1 x2 S2 A10 A11 fu x3 x4 A9 A13 = true → e_x3 = nI x3 → e_x4 = nI x4 → wX_extend_5 post (nI x1) (nI x2) fu e_x3 e_x4 S0 S1 (nI S2) A1 A2 A3 A4 A5 A6 A7 A8 (zq_g A9) (zq_g A10) (zq_g A11) A12 (zq_g A13) A14 A15 A16 A17 := by
  induction fu with
  | zero => intro x3 x4 A9 A13 e_x3 e_x4 h q_x3 q_x4; exact absurd h Bool.false_ne_true
  | succ n ih =>
    intro x3 x4 A9 A13 e_x3 e_x4 h q_x3 q_x4
    subst q_x3; subst q_x4; have h : (zq_if (zq_eq x4 (nat_lit 0))
        (kp A9 A13)
        (zq_fc (zq_or x1 x3) (fun y1 => zb_X_isComplete (fun r_2 am159_32 => zq_if (zq_eq r_2 (nat_lit 0))
        (zb_X_extend_30 kp (zb_X_extend_5 kp x1 x2 S2 A10 A11 n) x1 x2 x3 S2 am159_32 A10 A11 A13)
        (zq_if (zq_in (zq_or x1 x3) (nat_lit 1024))
        (zq_fc (zq_set A13 (zq_cl (zq_or x1 x3)) (nat_lit 1)) (fun am1513_61 => zb_X_extend_30 kp (zb_X_extend_5 kp x1 x2 S2 A10 A11 n) x1 x2 x3 S2 am159_32 A10 A11 am1513_61)) false)) y1 x2 S2 A9 A10 A11))) = true := h
    exact zq_br h (zq_ceq rfl rfl)
        (fun h => hp _ _ h)
        (fun h => have h := zq_fe h; zs_X_isComplete h (zq_hor rfl rfl) rfl (fun r_2 am159_32 h => zq_br h (zq_ceq rfl rfl)
        (fun h => zs_X_extend_30 h rfl rfl rfl hp (fun y0 y1 y2 y3 h => ih y0 y1 y2 y3 _ _ h rfl rfl))
        (fun h => zq_vi h (zq_hor rfl rfl) (by decide) (fun h => zq_up h (zq_hor rfl rfl) rfl (fun am1513_61 h => zs_X_extend_30 h rfl rfl rfl hp (fun y0 y1 y2 y3 h => ih y0 y1 y2 y3 _ _ h rfl rfl))))))
theorem zs_X_extend_5 {post : St2 → Prop} {kp : Nat → Nat → Bool} {x1 : Nat} {x2 : Nat} {S2 : Nat} {A10 : Nat} {A11 : Nat} {x3 : Nat} {x4 : Nat} {A9 : Nat} {A13 : Nat} {S0 : Int32} {S1 : Int32} {A1 : Nat → Int32} {A2 : Nat → Int32} {A3 : Nat → Int32} {A4 : Nat → Int32} {A5 : Nat → Int32} {A6 : Nat → Int32} {A7 : Nat → Int32} {A8 : Nat → Int32} {A12 : Nat → Int32} {A14 : Nat → Int32} {A15 : Nat → Int32} {A16 : Nat → Int32} {A17 : Nat → Int32} {e_x1 : Int32} {e_x2 : Int32} {e_x3 : Int32} {e_x4 : Int32} {fu : Nat} (h : zb_X_extend_5 kp x1 x2 S2 A10 A11 fu x3 x4 A9 A13 = true) (q_x1 : e_x1 = nI x1) (q_x2 : e_x2 = nI x2) (q_x3 : e_x3 = nI x3) (q_x4 : e_x4 = nI x4) (hp : ∀ w11 w15 : Nat, kp w11 w15 = true → post (S0, S1, (nI S2), A1, A2, A3, A4, A5, A6, A7, A8, (zq_g w11), (zq_g A10), (zq_g A11), A12, (zq_g w15), A14, A15, A16, A17)) : wX_extend_5 post e_x1 e_x2 fu e_x3 e_x4 S0 S1 (nI S2) A1 A2 A3 A4 A5 A6 A7 A8 (zq_g A9) (zq_g A10) (zq_g A11) A12 (zq_g A13) A14 A15 A16 A17 := by
  subst q_x1; subst q_x2; exact zr_X_extend_5 hp fu _ _ _ _ _ _ h q_x3 q_x4
noncomputable def zb_X_extend (kp : Nat → Nat → Bool) (p0 : Nat) (p1 : Nat) (S2 : Nat) (A9 : Nat) (A10 : Nat) (A11 : Nat) (A13 : Nat) : Bool :=
        zb_X_extend_5 kp p0 p1 S2 A10 A11 200 p1 (nat_lit 1) A9 A13
theorem zs_X_extend {post : St2 → Prop} {kp : Nat → Nat → Bool} {p0 : Nat} {p1 : Nat} {S2 : Nat} {A9 : Nat} {A10 : Nat} {A11 : Nat} {A13 : Nat} {S0 : Int32} {S1 : Int32} {A1 : Nat → Int32} {A2 : Nat → Int32} {A3 : Nat → Int32} {A4 : Nat → Int32} {A5 : Nat → Int32} {A6 : Nat → Int32} {A7 : Nat → Int32} {A8 : Nat → Int32} {A12 : Nat → Int32} {A14 : Nat → Int32} {A15 : Nat → Int32} {A16 : Nat → Int32} {A17 : Nat → Int32} {e_p0 : Int32} {e_p1 : Int32} (h : zb_X_extend kp p0 p1 S2 A9 A10 A11 A13 = true) (q_p0 : e_p0 = nI p0) (q_p1 : e_p1 = nI p1) (hp : ∀ w11 w15 : Nat, kp w11 w15 = true → post (S0, S1, (nI S2), A1, A2, A3, A4, A5, A6, A7, A8, (zq_g w11), (zq_g A10), (zq_g A11), A12, (zq_g w15), A14, A15, A16, A17)) : wpX_extend post (S0, S1, (nI S2), A1, A2, A3, A4, A5, A6, A7, A8, (zq_g A9), (zq_g A10), (zq_g A11), A12, (zq_g A13), A14, A15, A16, A17) e_p0 e_p1 := by
  subst q_p0; subst q_p1; have h : (zb_X_extend_5 kp p0 p1 S2 A10 A11 200 p1 (nat_lit 1) A9 A13) = true := h
  exact Exists.intro 200 (zs_X_extend_5 h rfl rfl rfl rfl hp)
/-- 1024 cells copied -/
noncomputable def zb_X_addGroup_54 (kp : Nat → Nat → Nat → Bool) (S2 A9 A10 A11 A12 A13 : Nat) : Bool :=
  zq_if (Nat.beq (Nat.shiftRight A12 (nat_lit 32768)) (nat_lit 0)) (zq_if (Nat.beq (Nat.shiftRight A13 (nat_lit 32768)) (nat_lit 0)) (zq_if (Nat.beq (Nat.land A13 zq_c1) A13) (kp A9 A13 A13) false) false) false
theorem zs_X_addGroup_54 {post : St2 → Prop} {kp : Nat → Nat → Nat → Bool} {S2 : Nat} {A9 : Nat} {A10 : Nat} {A11 : Nat} {A12 : Nat} {A13 : Nat} {S0 : Int32} {S1 : Int32} {A1 : Nat → Int32} {A2 : Nat → Int32} {A3 : Nat → Int32} {A4 : Nat → Int32} {A5 : Nat → Int32} {A6 : Nat → Int32} {A7 : Nat → Int32} {A8 : Nat → Int32} {A14 : Nat → Int32} {A15 : Nat → Int32} {A16 : Nat → Int32} {A17 : Nat → Int32} (h : zb_X_addGroup_54 kp S2 A9 A10 A11 A12 A13 = true) (hp : ∀ w11 w14 w15 : Nat, kp w11 w14 w15 = true → post (S0, S1, (nI S2), A1, A2, A3, A4, A5, A6, A7, A8, (zq_g w11), (zq_g A10), (zq_g A11), (zq_g w14), (zq_g w15), A14, A15, A16, A17)) : ∃ fu : Nat, wX_addGroup_54 post S0 S1 (nI S2) fu 0 A1 A2 A3 A4 A5 A6 A7 A8 (zq_g A9) (zq_g A10) (zq_g A11) (zq_g A12) (zq_g A13) A14 A15 A16 A17 := by
  obtain ⟨h1, h⟩ := zq_ift h
  obtain ⟨h2, h⟩ := zq_ift h
  obtain ⟨h3, h⟩ := zq_ift h
  exact ⟨1024 + 1, zq_fill (N := 1024) (by decide) (W := fun n x a => wX_addGroup_54 post S0 S1 (nI S2) n x A1 A2 A3 A4 A5 A6 A7 A8 (zq_g A9) (zq_g A10) (zq_g A11) a (zq_g A13) A14 A15 A16 A17) (E := fun a => post (S0, S1, (nI S2), A1, A2, A3, A4, A5, A6, A7, A8, (zq_g A9), (zq_g A10), (zq_g A11), a, (zq_g A13), A14, A15, A16, A17)) (val := fun x => vp_nar .boolean (zq_g A13 x.toNatClampNeg))
    (fun n x a g => And.intro g.1 (fun c => And.intro (g.2 c).1 (And.intro (g.2 c).1 (g.2 c).2))) (zq_g A12) (zq_g A13) (fun j hj => zq_bot h3 hj) (fun j hj => (zq_hi2 h1 hj).trans (zq_hi2 h2 hj).symm) (hp _ _ _ h)⟩
noncomputable def zb_X_addGroup_24 (kp : Nat → Nat → Nat → Bool) (x1 : Nat) (x2 : Nat) (S2 : Nat) (A10 : Nat) (A11 : Nat) : Nat → Nat → Nat → Nat → Nat → Bool := fun fu => @Nat.rec (fun _ => Nat → Nat → Nat → Nat → Bool) (fun _ _ _ _ => false) (fun _ ih => fun x3 A9 A12 A13 =>
        zq_if (zq_le (zq_shl (nat_lit 1) x1) x3)
        (zb_X_addGroup_54 kp S2 A9 A10 A11 A12 A13)
        (zq_if (zq_in x3 (nat_lit 1024))
        (zq_if (zq_eq (zq_get A12 (zq_cl x3)) (nat_lit 0))
        (zq_fc (zq_add x3 (nat_lit 1)) (fun x3_10 => ih x3_10 A9 A12 A13))
        (zb_X_extend (fun am439_41 am4313_53 => zq_fc (zq_add x3 (nat_lit 1)) (fun x3_66 => ih x3_66 am439_41 A12 am4313_53)) x3 x2 S2 A9 A10 A11 A13)) false)) fu
theorem zr_X_addGroup_24 {post : St2 → Prop} {kp : Nat → Nat → Nat → Bool} {x1 : Nat} {x2 : Nat} {S2 : Nat} {A10 : Nat} {A11 : Nat} {S0 : Int32} {S1 : Int32} {A1 : Nat → Int32} {A2 : Nat → Int32} {A3 : Nat → Int32} {A4 : Nat → Int32} {A5 : Nat → Int32} {A6 : Nat → Int32} {A7 : Nat → Int32} {A8 : Nat → Int32} {A14 : Nat → Int32} {A15 : Nat → Int32} {A16 : Nat → Int32} {A17 : Nat → Int32} (hp : ∀ w11 w14 w15 : Nat, kp w11 w14 w15 = true → post (S0, S1, (nI S2), A1, A2, A3, A4, A5, A6, A7, A8, (zq_g w11), (zq_g A10), (zq_g A11), (zq_g w14), (zq_g w15), A14, A15, A16, A17)) (fu : Nat) : ∀ (x3 : Nat) (A9 : Nat) (A12 : Nat) (A13 : Nat) (e_x3 : Int32), zb_X_addGroup_24 kp x1 x2 S2 A10 A11 fu x3 A9 A12 A13 = true → e_x3 = nI x3 → wX_addGroup_24 post (nI x1) (nI x2) fu e_x3 S0 S1 (nI S2) A1 A2 A3 A4 A5 A6 A7 A8 (zq_g A9) (zq_g A10) (zq_g A11) (zq_g A12) (zq_g A13) A14 A15 A16 A17 := by
  induction fu with
  | zero => intro x3 A9 A12 A13 e_x3 h q_x3; exact absurd h Bool.false_ne_true
  | succ n ih =>
    intro x3 A9 A12 A13 e_x3 h q_x3
    subst q_x3; have h : (zq_if (zq_le (zq_shl (nat_lit 1) x1) x3)
        (zb_X_addGroup_54 kp S2 A9 A10 A11 A12 A13)
        (zq_if (zq_in x3 (nat_lit 1024))
        (zq_if (zq_eq (zq_get A12 (zq_cl x3)) (nat_lit 0))
        (zq_fc (zq_add x3 (nat_lit 1)) (fun x3_10 => (zb_X_addGroup_24 kp x1 x2 S2 A10 A11 n) x3_10 A9 A12 A13))
        (zb_X_extend (fun am439_41 am4313_53 => zq_fc (zq_add x3 (nat_lit 1)) (fun x3_66 => (zb_X_addGroup_24 kp x1 x2 S2 A10 A11 n) x3_66 am439_41 A12 am4313_53)) x3 x2 S2 A9 A10 A11 A13)) false)) = true := h
    exact zq_br h (zq_cle (zq_hshl rfl rfl) rfl)
        (fun h => zs_X_addGroup_54 h hp)
        (fun h => zq_vi h rfl (by decide) (fun h => zq_br h (zq_ceq (zq_rd rfl) rfl)
        (fun h => zq_ly h (zq_hadd rfl rfl) (fun x3_10 h => ih _ _ _ _ _ h rfl))
        (fun h => zs_X_extend h rfl rfl (fun am439_41 am4313_53 h => zq_ly h (zq_hadd rfl rfl) (fun x3_66 h => ih _ _ _ _ _ h rfl)))))
theorem zs_X_addGroup_24 {post : St2 → Prop} {kp : Nat → Nat → Nat → Bool} {x1 : Nat} {x2 : Nat} {S2 : Nat} {A10 : Nat} {A11 : Nat} {x3 : Nat} {A9 : Nat} {A12 : Nat} {A13 : Nat} {S0 : Int32} {S1 : Int32} {A1 : Nat → Int32} {A2 : Nat → Int32} {A3 : Nat → Int32} {A4 : Nat → Int32} {A5 : Nat → Int32} {A6 : Nat → Int32} {A7 : Nat → Int32} {A8 : Nat → Int32} {A14 : Nat → Int32} {A15 : Nat → Int32} {A16 : Nat → Int32} {A17 : Nat → Int32} {e_x1 : Int32} {e_x2 : Int32} {e_x3 : Int32} {fu : Nat} (h : zb_X_addGroup_24 kp x1 x2 S2 A10 A11 fu x3 A9 A12 A13 = true) (q_x1 : e_x1 = nI x1) (q_x2 : e_x2 = nI x2) (q_x3 : e_x3 = nI x3) (hp : ∀ w11 w14 w15 : Nat, kp w11 w14 w15 = true → post (S0, S1, (nI S2), A1, A2, A3, A4, A5, A6, A7, A8, (zq_g w11), (zq_g A10), (zq_g A11), (zq_g w14), (zq_g w15), A14, A15, A16, A17)) : wX_addGroup_24 post e_x1 e_x2 fu e_x3 S0 S1 (nI S2) A1 A2 A3 A4 A5 A6 A7 A8 (zq_g A9) (zq_g A10) (zq_g A11) (zq_g A12) (zq_g A13) A14 A15 A16 A17 := by
  subst q_x1; subst q_x2; exact zr_X_addGroup_24 hp fu _ _ _ _ _ h q_x3
/-- 1024 cells filled with 0 -/
noncomputable def zb_X_addGroup_2 (kp : Nat → Nat → Nat → Bool) (x1 x2 S2 A9 A10 A11 A12 A13 : Nat) : Bool :=
  zq_if (Nat.beq (Nat.shiftRight A13 (nat_lit 32768)) (nat_lit 0)) (zb_X_addGroup_24 kp x1 x2 S2 A10 A11 200 (nat_lit 0) A9 A12 (nat_lit 0)) false
theorem zs_X_addGroup_2 {post : St2 → Prop} {kp : Nat → Nat → Nat → Bool} {x1 x2 : Nat} {S2 : Nat} {A9 : Nat} {A10 : Nat} {A11 : Nat} {A12 : Nat} {A13 : Nat} {S0 : Int32} {S1 : Int32} {A1 : Nat → Int32} {A2 : Nat → Int32} {A3 : Nat → Int32} {A4 : Nat → Int32} {A5 : Nat → Int32} {A6 : Nat → Int32} {A7 : Nat → Int32} {A8 : Nat → Int32} {A14 : Nat → Int32} {A15 : Nat → Int32} {A16 : Nat → Int32} {A17 : Nat → Int32} {e_x1 e_x2 : Int32} (h : zb_X_addGroup_2 kp x1 x2 S2 A9 A10 A11 A12 A13 = true) (q_x1 : e_x1 = nI x1) (q_x2 : e_x2 = nI x2) (hp : ∀ w11 w14 w15 : Nat, kp w11 w14 w15 = true → post (S0, S1, (nI S2), A1, A2, A3, A4, A5, A6, A7, A8, (zq_g w11), (zq_g A10), (zq_g A11), (zq_g w14), (zq_g w15), A14, A15, A16, A17)) : ∃ fu : Nat, wX_addGroup_2 post e_x1 e_x2 S0 S1 (nI S2) fu 0 A1 A2 A3 A4 A5 A6 A7 A8 (zq_g A9) (zq_g A10) (zq_g A11) (zq_g A12) (zq_g A13) A14 A15 A16 A17 := by
  subst q_x1; subst q_x2
  obtain ⟨h1, h⟩ := zq_ift h
  exact ⟨1024 + 1, zq_fill (N := 1024) (by decide) (W := fun n x a => wX_addGroup_2 post (nI x1) (nI x2) S0 S1 (nI S2) n x A1 A2 A3 A4 A5 A6 A7 A8 (zq_g A9) (zq_g A10) (zq_g A11) (zq_g A12) a A14 A15 A16 A17) (E := fun a => ∃ fu24 : Nat, wX_addGroup_24 post (nI x1) (nI x2) fu24 0 S0 S1 (nI S2) A1 A2 A3 A4 A5 A6 A7 A8 (zq_g A9) (zq_g A10) (zq_g A11) (zq_g A12) a A14 A15 A16 A17) (val := fun _ => 0)
    (fun n x a g => And.intro g.1 (fun c => And.intro (g.2 c).1 (g.2 c).2)) (zq_g A13) (zq_g (nat_lit 0)) (fun j hj => zq_g00) (fun j hj => (zq_hi2 h1 hj).trans zq_g00.symm) (Exists.intro 200 (zs_X_addGroup_24 h rfl rfl rfl hp))⟩
noncomputable def zb_X_addGroup (kp : Nat → Nat → Nat → Bool) (p0 : Nat) (p1 : Nat) (S2 : Nat) (A9 : Nat) (A10 : Nat) (A11 : Nat) (A12 : Nat) (A13 : Nat) : Bool :=
        zb_X_addGroup_2 kp p0 p1 S2 A9 A10 A11 A12 A13
theorem zs_X_addGroup {post : St2 → Prop} {kp : Nat → Nat → Nat → Bool} {p0 : Nat} {p1 : Nat} {S2 : Nat} {A9 : Nat} {A10 : Nat} {A11 : Nat} {A12 : Nat} {A13 : Nat} {S0 : Int32} {S1 : Int32} {A1 : Nat → Int32} {A2 : Nat → Int32} {A3 : Nat → Int32} {A4 : Nat → Int32} {A5 : Nat → Int32} {A6 : Nat → Int32} {A7 : Nat → Int32} {A8 : Nat → Int32} {A14 : Nat → Int32} {A15 : Nat → Int32} {A16 : Nat → Int32} {A17 : Nat → Int32} {e_p0 : Int32} {e_p1 : Int32} (h : zb_X_addGroup kp p0 p1 S2 A9 A10 A11 A12 A13 = true) (q_p0 : e_p0 = nI p0) (q_p1 : e_p1 = nI p1) (hp : ∀ w11 w14 w15 : Nat, kp w11 w14 w15 = true → post (S0, S1, (nI S2), A1, A2, A3, A4, A5, A6, A7, A8, (zq_g w11), (zq_g A10), (zq_g A11), (zq_g w14), (zq_g w15), A14, A15, A16, A17)) : wpX_addGroup post (S0, S1, (nI S2), A1, A2, A3, A4, A5, A6, A7, A8, (zq_g A9), (zq_g A10), (zq_g A11), (zq_g A12), (zq_g A13), A14, A15, A16, A17) e_p0 e_p1 := by
  subst q_p0; subst q_p1; have h : (zb_X_addGroup_2 kp p0 p1 S2 A9 A10 A11 A12 A13) = true := h
  exact zs_X_addGroup_2 h rfl rfl hp
noncomputable def zb_X_byCouples_96 (kp : Nat → Nat → Nat → Nat → Nat → Nat → Nat → Bool) (S2 : Nat) (A4 : Nat) (A9 : Nat) (A10 : Nat) (A11 : Nat) (A12 : Nat) (A13 : Nat) : Nat → Nat → Nat → Bool := fun fu => @Nat.rec (fun _ => Nat → Nat → Bool) (fun _ _ => false) (fun _ ih => fun x2 x3 =>
        zq_if (zq_le (nat_lit 1024) x3)
        (kp x2 S2 A9 A10 A11 A12 A13)
        (zq_if (zq_in x3 (nat_lit 1024))
        (zq_if (zq_eq (zq_get A12 (zq_cl x3)) (nat_lit 0))
        (zq_fc (zq_add x3 (nat_lit 1)) (fun x3_61 => ih x2 x3_61))
        (zb_X_unbeaten (fun r_62 => zq_fc (zq_or x2 r_62) (fun x2_63 => zq_fc (zq_add x3 (nat_lit 1)) (fun x3_64 => ih x2_63 x3_64))) x3 S2 A11)) false)) fu
theorem zr_X_byCouples_96 {post : Int32 → St2 → Prop} {kp : Nat → Nat → Nat → Nat → Nat → Nat → Nat → Bool} {S2 : Nat} {A4 : Nat} {A9 : Nat} {A10 : Nat} {A11 : Nat} {A12 : Nat} {A13 : Nat} {S0 : Int32} {S1 : Int32} {A1 : Nat → Int32} {A2 : Nat → Int32} {A3 : Nat → Int32} {A5 : Nat → Int32} {A6 : Nat → Int32} {A7 : Nat → Int32} {A8 : Nat → Int32} {A14 : Nat → Int32} {A15 : Nat → Int32} {A16 : Nat → Int32} {A17 : Nat → Int32} (hp : ∀ r w2 w11 w12 w13 w14 w15 : Nat, kp r w2 w11 w12 w13 w14 w15 = true → post (nI r) (S0, S1, (nI w2), A1, A2, A3, (zq_g A4), A5, A6, A7, A8, (zq_g w11), (zq_g w12), (zq_g w13), (zq_g w14), (zq_g w15), A14, A15, A16, A17)) (fu : Nat) : ∀ (x2 : Nat) (x3 : Nat) (e_x2 : Int32) (e_x3 : Int32), zb_X_byCouples_96 kp S2 A4 A9 A10 A11 A12 A13 fu x2 x3 = true → e_x2 = nI x2 → e_x3 = nI x3 → wX_byCouples_96 post S0 S1 (nI S2) A1 A2 A3 (zq_g A4) A5 A6 A7 A8 (zq_g A9) (zq_g A10) (zq_g A11) (zq_g A12) (zq_g A13) A14 A15 A16 A17 fu e_x2 e_x3 := by
  induction fu with
  | zero => intro x2 x3 e_x2 e_x3 h q_x2 q_x3; exact absurd h Bool.false_ne_true
  | succ n ih =>
    intro x2 x3 e_x2 e_x3 h q_x2 q_x3
    subst q_x2; subst q_x3; have h : (zq_if (zq_le (nat_lit 1024) x3)
        (kp x2 S2 A9 A10 A11 A12 A13)
        (zq_if (zq_in x3 (nat_lit 1024))
        (zq_if (zq_eq (zq_get A12 (zq_cl x3)) (nat_lit 0))
        (zq_fc (zq_add x3 (nat_lit 1)) (fun x3_61 => (zb_X_byCouples_96 kp S2 A4 A9 A10 A11 A12 A13 n) x2 x3_61))
        (zb_X_unbeaten (fun r_62 => zq_fc (zq_or x2 r_62) (fun x2_63 => zq_fc (zq_add x3 (nat_lit 1)) (fun x3_64 => (zb_X_byCouples_96 kp S2 A4 A9 A10 A11 A12 A13 n) x2_63 x3_64))) x3 S2 A11)) false)) = true := h
    exact zq_br h (zq_cle rfl rfl)
        (fun h => hp _ _ _ _ _ _ _ h)
        (fun h => zq_vi h rfl (by decide) (fun h => zq_br h (zq_ceq (zq_rd rfl) rfl)
        (fun h => zq_ly h (zq_hadd rfl rfl) (fun x3_61 h => ih _ _ _ _ h rfl rfl))
        (fun h => zs_X_unbeaten h rfl (fun r_62 h => zq_ly h (zq_hor rfl rfl) (fun x2_63 h => zq_ly h (zq_hadd rfl rfl) (fun x3_64 h => ih _ _ _ _ h rfl rfl))))))
theorem zs_X_byCouples_96 {post : Int32 → St2 → Prop} {kp : Nat → Nat → Nat → Nat → Nat → Nat → Nat → Bool} {S2 : Nat} {A4 : Nat} {A9 : Nat} {A10 : Nat} {A11 : Nat} {A12 : Nat} {A13 : Nat} {x2 : Nat} {x3 : Nat} {S0 : Int32} {S1 : Int32} {A1 : Nat → Int32} {A2 : Nat → Int32} {A3 : Nat → Int32} {A5 : Nat → Int32} {A6 : Nat → Int32} {A7 : Nat → Int32} {A8 : Nat → Int32} {A14 : Nat → Int32} {A15 : Nat → Int32} {A16 : Nat → Int32} {A17 : Nat → Int32} {e_x2 : Int32} {e_x3 : Int32} {fu : Nat} (h : zb_X_byCouples_96 kp S2 A4 A9 A10 A11 A12 A13 fu x2 x3 = true) (q_x2 : e_x2 = nI x2) (q_x3 : e_x3 = nI x3) (hp : ∀ r w2 w11 w12 w13 w14 w15 : Nat, kp r w2 w11 w12 w13 w14 w15 = true → post (nI r) (S0, S1, (nI w2), A1, A2, A3, (zq_g A4), A5, A6, A7, A8, (zq_g w11), (zq_g w12), (zq_g w13), (zq_g w14), (zq_g w15), A14, A15, A16, A17)) : wX_byCouples_96 post S0 S1 (nI S2) A1 A2 A3 (zq_g A4) A5 A6 A7 A8 (zq_g A9) (zq_g A10) (zq_g A11) (zq_g A12) (zq_g A13) A14 A15 A16 A17 fu e_x2 e_x3 := by
  exact zr_X_byCouples_96 hp fu _ _ _ _ h q_x2 q_x3
noncomputable def zb_X_byCouples_75 (kp : Nat → Nat → Nat → Nat → Nat → Nat → Nat → Bool) (kJ36 : Nat → Nat → Nat → Nat → Nat → Nat → Nat → Bool) (x1 : Nat) (x2 : Nat) (S2 : Nat) (A4 : Nat) (A9 : Nat) (A10 : Nat) (A11 : Nat) (A12 : Nat) (A13 : Nat) : Bool :=
        zq_fc (zq_sub (zq_shl (nat_lit 1) x2) (zq_shl (nat_lit 1) x1)) (fun y1 => zb_X_addGroup (fun am849_97 am8412_106 am8413_109 => kJ36 x2 S2 am849_97 A10 A11 am8412_106 am8413_109) x1 y1 S2 A9 A10 A11 A12 A13)
theorem zs_X_byCouples_75 {post : Int32 → St2 → Prop} {J36 : Int32 → Int32 → Int32 → Int32 → (Nat → Int32) → (Nat → Int32) → (Nat → Int32) → (Nat → Int32) → (Nat → Int32) → (Nat → Int32) → (Nat → Int32) → (Nat → Int32) → (Nat → Int32) → (Nat → Int32) → (Nat → Int32) → (Nat → Int32) → (Nat → Int32) → (Nat → Int32) → (Nat → Int32) → (Nat → Int32) → (Nat → Int32) → Prop} {kp : Nat → Nat → Nat → Nat → Nat → Nat → Nat → Bool} {kJ36 : Nat → Nat → Nat → Nat → Nat → Nat → Nat → Bool} {x1 : Nat} {x2 : Nat} {S2 : Nat} {A4 : Nat} {A9 : Nat} {A10 : Nat} {A11 : Nat} {A12 : Nat} {A13 : Nat} {S0 : Int32} {S1 : Int32} {A1 : Nat → Int32} {A2 : Nat → Int32} {A3 : Nat → Int32} {A5 : Nat → Int32} {A6 : Nat → Int32} {A7 : Nat → Int32} {A8 : Nat → Int32} {A14 : Nat → Int32} {A15 : Nat → Int32} {A16 : Nat → Int32} {A17 : Nat → Int32} {e_x1 : Int32} {e_x2 : Int32} (h : zb_X_byCouples_75 kp kJ36 x1 x2 S2 A4 A9 A10 A11 A12 A13 = true) (q_x1 : e_x1 = nI x1) (q_x2 : e_x2 = nI x2) (hp : ∀ r w2 w11 w12 w13 w14 w15 : Nat, kp r w2 w11 w12 w13 w14 w15 = true → post (nI r) (S0, S1, (nI w2), A1, A2, A3, (zq_g A4), A5, A6, A7, A8, (zq_g w11), (zq_g w12), (zq_g w13), (zq_g w14), (zq_g w15), A14, A15, A16, A17)) (hJ36 : ∀ y_x1 v2 v11 v12 v13 v14 v15 : Nat, kJ36 y_x1 v2 v11 v12 v13 v14 v15 = true → J36 (nI y_x1) S0 S1 (nI v2) A1 A2 A3 (zq_g A4) A5 A6 A7 A8 (zq_g v11) (zq_g v12) (zq_g v13) (zq_g v14) (zq_g v15) A14 A15 A16 A17) : wX_byCouples_75 post J36 e_x1 e_x2 S0 S1 (nI S2) A1 A2 A3 (zq_g A4) A5 A6 A7 A8 (zq_g A9) (zq_g A10) (zq_g A11) (zq_g A12) (zq_g A13) A14 A15 A16 A17 := by
  subst q_x1; subst q_x2; have h : (zq_fc (zq_sub (zq_shl (nat_lit 1) x2) (zq_shl (nat_lit 1) x1)) (fun y1 => zb_X_addGroup (fun am849_97 am8412_106 am8413_109 => kJ36 x2 S2 am849_97 A10 A11 am8412_106 am8413_109) x1 y1 S2 A9 A10 A11 A12 A13)) = true := h
  exact have h := zq_fe h; zs_X_addGroup h rfl (zq_hsub (zq_hshl rfl rfl) (zq_hshl rfl rfl)) (fun am849_97 am8412_106 am8413_109 h => hJ36 _ _ _ _ _ _ _ h)
noncomputable def zb_X_byCouples_52 (kp : Nat → Nat → Nat → Nat → Nat → Nat → Nat → Bool) (kJ36 : Nat → Nat → Nat → Nat → Nat → Nat → Nat → Bool) (x1 : Nat) (x3 : Nat) (S2 : Nat) (A4 : Nat) (A9 : Nat) (A10 : Nat) (A11 : Nat) (A12 : Nat) (A13 : Nat) : Nat → Nat → Bool := fun fu => @Nat.rec (fun _ => Nat → Bool) (fun _ => false) (fun _ ih => fun x2 =>
        zq_if (zq_le S2 x2)
        (zb_X_byCouples_75 kp kJ36 x1 x2 S2 A4 A9 A10 A11 A12 A13)
        (zb_X_marginOf (fun r_122 => zq_if (zq_eq r_122 x3)
        (zq_fc (zq_add x2 (nat_lit 1)) (fun x2_124 => ih x2_124))
        (zb_X_byCouples_75 kp kJ36 x1 x2 S2 A4 A9 A10 A11 A12 A13)) x2 A4 A10 A11)) fu
theorem zr_X_byCouples_52 {post : Int32 → St2 → Prop} {J36 : Int32 → Int32 → Int32 → Int32 → (Nat → Int32) → (Nat → Int32) → (Nat → Int32) → (Nat → Int32) → (Nat → Int32) → (Nat → Int32) → (Nat → Int32) → (Nat → Int32) → (Nat → Int32) → (Nat → Int32) → (Nat → Int32) → (Nat → Int32) → (Nat → Int32) → (Nat → Int32) → (Nat → Int32) → (Nat → Int32) → (Nat → Int32) → Prop} {kp : Nat → Nat → Nat → Nat → Nat → Nat → Nat → Bool} {kJ36 : Nat → Nat → Nat → Nat → Nat → Nat → Nat → Bool} {x1 : Nat} {x3 : Nat} {S2 : Nat} {A4 : Nat} {A9 : Nat} {A10 : Nat} {A11 : Nat} {A12 : Nat} {A13 : Nat} {S0 : Int32} {S1 : Int32} {A1 : Nat → Int32} {A2 : Nat → Int32} {A3 : Nat → Int32} {A5 : Nat → Int32} {A6 : Nat → Int32} {A7 : Nat → Int32} {A8 : Nat → Int32} {A14 : Nat → Int32} {A15 : Nat → Int32} {A16 : Nat → Int32} {A17 : Nat → Int32} (hp : ∀ r w2 w11 w12 w13 w14 w15 : Nat, kp r w2 w11 w12 w13 w14 w15 = true → post (nI r) (S0, S1, (nI w2), A1, A2, A3, (zq_g A4), A5, A6, A7, A8, (zq_g w11), (zq_g w12), (zq_g w13), (zq_g w14), (zq_g w15), A14, A15, A16, A17)) (hJ36 : ∀ y_x1 v2 v11 v12 v13 v14 v15 : Nat, kJ36 y_x1 v2 v11 v12 v13 v14 v15 = true → J36 (nI y_x1) S0 S1 (nI v2) A1 A2 A3 (zq_g A4) A5 A6 A7 A8 (zq_g v11) (zq_g v12) (zq_g v13) (zq_g v14) (zq_g v15) A14 A15 A16 A17) (fu : Nat) : ∀ (x2 : Nat) (e_x2 : Int32), zb_X_byCouples_52 kp kJ36 x1 x3 S2 A4 A9 A10 A11 A12 A13 fu x2 = true → e_x2 = nI x2 → wX_byCouples_52 post J36 (nI x1) (nI x3) S0 S1 (nI S2) A1 A2 A3 (zq_g A4) A5 A6 A7 A8 (zq_g A9) (zq_g A10) (zq_g A11) (zq_g A12) (zq_g A13) A14 A15 A16 A17 fu e_x2 := by
  induction fu with
  | zero => intro x2 e_x2 h q_x2; exact absurd h Bool.false_ne_true
  | succ n ih =>
    intro x2 e_x2 h q_x2
    subst q_x2; have h : (zq_if (zq_le S2 x2)
        (zb_X_byCouples_75 kp kJ36 x1 x2 S2 A4 A9 A10 A11 A12 A13)
        (zb_X_marginOf (fun r_122 => zq_if (zq_eq r_122 x3)
        (zq_fc (zq_add x2 (nat_lit 1)) (fun x2_124 => (zb_X_byCouples_52 kp kJ36 x1 x3 S2 A4 A9 A10 A11 A12 A13 n) x2_124))
        (zb_X_byCouples_75 kp kJ36 x1 x2 S2 A4 A9 A10 A11 A12 A13)) x2 A4 A10 A11)) = true := h
    exact zq_br h (zq_cle rfl rfl)
        (fun h => zs_X_byCouples_75 h rfl rfl hp hJ36)
        (fun h => zs_X_marginOf h rfl (fun r_122 h => zq_br h (zq_ceq rfl rfl)
        (fun h => zq_ly h (zq_hadd rfl rfl) (fun x2_124 h => ih _ _ h rfl))
        (fun h => zs_X_byCouples_75 h rfl rfl hp hJ36)))
theorem zs_X_byCouples_52 {post : Int32 → St2 → Prop} {J36 : Int32 → Int32 → Int32 → Int32 → (Nat → Int32) → (Nat → Int32) → (Nat → Int32) → (Nat → Int32) → (Nat → Int32) → (Nat → Int32) → (Nat → Int32) → (Nat → Int32) → (Nat → Int32) → (Nat → Int32) → (Nat → Int32) → (Nat → Int32) → (Nat → Int32) → (Nat → Int32) → (Nat → Int32) → (Nat → Int32) → (Nat → Int32) → Prop} {kp : Nat → Nat → Nat → Nat → Nat → Nat → Nat → Bool} {kJ36 : Nat → Nat → Nat → Nat → Nat → Nat → Nat → Bool} {x1 : Nat} {x3 : Nat} {S2 : Nat} {A4 : Nat} {A9 : Nat} {A10 : Nat} {A11 : Nat} {A12 : Nat} {A13 : Nat} {x2 : Nat} {S0 : Int32} {S1 : Int32} {A1 : Nat → Int32} {A2 : Nat → Int32} {A3 : Nat → Int32} {A5 : Nat → Int32} {A6 : Nat → Int32} {A7 : Nat → Int32} {A8 : Nat → Int32} {A14 : Nat → Int32} {A15 : Nat → Int32} {A16 : Nat → Int32} {A17 : Nat → Int32} {e_x1 : Int32} {e_x3 : Int32} {e_x2 : Int32} {fu : Nat} (h : zb_X_byCouples_52 kp kJ36 x1 x3 S2 A4 A9 A10 A11 A12 A13 fu x2 = true) (q_x1 : e_x1 = nI x1) (q_x3 : e_x3 = nI x3) (q_x2 : e_x2 = nI x2) (hp : ∀ r w2 w11 w12 w13 w14 w15 : Nat, kp r w2 w11 w12 w13 w14 w15 = true → post (nI r) (S0, S1, (nI w2), A1, A2, A3, (zq_g A4), A5, A6, A7, A8, (zq_g w11), (zq_g w12), (zq_g w13), (zq_g w14), (zq_g w15), A14, A15, A16, A17)) (hJ36 : ∀ y_x1 v2 v11 v12 v13 v14 v15 : Nat, kJ36 y_x1 v2 v11 v12 v13 v14 v15 = true → J36 (nI y_x1) S0 S1 (nI v2) A1 A2 A3 (zq_g A4) A5 A6 A7 A8 (zq_g v11) (zq_g v12) (zq_g v13) (zq_g v14) (zq_g v15) A14 A15 A16 A17) : wX_byCouples_52 post J36 e_x1 e_x3 S0 S1 (nI S2) A1 A2 A3 (zq_g A4) A5 A6 A7 A8 (zq_g A9) (zq_g A10) (zq_g A11) (zq_g A12) (zq_g A13) A14 A15 A16 A17 fu e_x2 := by
  subst q_x1; subst q_x3; exact zr_X_byCouples_52 hp hJ36 fu _ _ h q_x2
noncomputable def zb_X_byCouples_36 (kp : Nat → Nat → Nat → Nat → Nat → Nat → Nat → Bool) (A4 : Nat) : Nat → Nat → Nat → Nat → Nat → Nat → Nat → Nat → Bool := fun fu => @Nat.rec (fun _ => Nat → Nat → Nat → Nat → Nat → Nat → Nat → Bool) (fun _ _ _ _ _ _ _ => false) (fun _ ih => fun x1 S2 A9 A10 A11 A12 A13 =>
        zq_if (zq_le S2 x1)
        (zb_X_byCouples_96 kp S2 A4 A9 A10 A11 A12 A13 1100 (nat_lit 0) (nat_lit 0))
        (zb_X_marginOf (fun r_65 => zb_X_byCouples_52 kp ih x1 r_65 S2 A4 A9 A10 A11 A12 A13 40 x1) x1 A4 A10 A11)) fu
theorem zr_X_byCouples_36 {post : Int32 → St2 → Prop} {kp : Nat → Nat → Nat → Nat → Nat → Nat → Nat → Bool} {A4 : Nat} {S0 : Int32} {S1 : Int32} {A1 : Nat → Int32} {A2 : Nat → Int32} {A3 : Nat → Int32} {A5 : Nat → Int32} {A6 : Nat → Int32} {A7 : Nat → Int32} {A8 : Nat → Int32} {A14 : Nat → Int32} {A15 : Nat → Int32} {A16 : Nat → Int32} {A17 : Nat → Int32} (hp : ∀ r w2 w11 w12 w13 w14 w15 : Nat, kp r w2 w11 w12 w13 w14 w15 = true → post (nI r) (S0, S1, (nI w2), A1, A2, A3, (zq_g A4), A5, A6, A7, A8, (zq_g w11), (zq_g w12), (zq_g w13), (zq_g w14), (zq_g w15), A14, A15, A16, A17)) (fu : Nat) : ∀ (x1 : Nat) (S2 : Nat) (A9 : Nat) (A10 : Nat) (A11 : Nat) (A12 : Nat) (A13 : Nat) (e_x1 : Int32), zb_X_byCouples_36 kp A4 fu x1 S2 A9 A10 A11 A12 A13 = true → e_x1 = nI x1 → wX_byCouples_36 post fu e_x1 S0 S1 (nI S2) A1 A2 A3 (zq_g A4) A5 A6 A7 A8 (zq_g A9) (zq_g A10) (zq_g A11) (zq_g A12) (zq_g A13) A14 A15 A16 A17 := by
  induction fu with
  | zero => intro x1 S2 A9 A10 A11 A12 A13 e_x1 h q_x1; exact absurd h Bool.false_ne_true
  | succ n ih =>
    intro x1 S2 A9 A10 A11 A12 A13 e_x1 h q_x1
    subst q_x1; have h : (zq_if (zq_le S2 x1)
        (zb_X_byCouples_96 kp S2 A4 A9 A10 A11 A12 A13 1100 (nat_lit 0) (nat_lit 0))
        (zb_X_marginOf (fun r_65 => zb_X_byCouples_52 kp (zb_X_byCouples_36 kp A4 n) x1 r_65 S2 A4 A9 A10 A11 A12 A13 40 x1) x1 A4 A10 A11)) = true := h
    exact zq_br h (zq_cle rfl rfl)
        (fun h => Exists.intro 1100 (zs_X_byCouples_96 h rfl rfl hp))
        (fun h => zs_X_marginOf h rfl (fun r_65 h => Exists.intro 40 (zs_X_byCouples_52 h rfl rfl rfl hp (fun y0 y1 y2 y3 y4 y5 y6 h => ih y0 y1 y2 y3 y4 y5 y6 _ h rfl))))
theorem zs_X_byCouples_36 {post : Int32 → St2 → Prop} {kp : Nat → Nat → Nat → Nat → Nat → Nat → Nat → Bool} {A4 : Nat} {x1 : Nat} {S2 : Nat} {A9 : Nat} {A10 : Nat} {A11 : Nat} {A12 : Nat} {A13 : Nat} {S0 : Int32} {S1 : Int32} {A1 : Nat → Int32} {A2 : Nat → Int32} {A3 : Nat → Int32} {A5 : Nat → Int32} {A6 : Nat → Int32} {A7 : Nat → Int32} {A8 : Nat → Int32} {A14 : Nat → Int32} {A15 : Nat → Int32} {A16 : Nat → Int32} {A17 : Nat → Int32} {e_x1 : Int32} {fu : Nat} (h : zb_X_byCouples_36 kp A4 fu x1 S2 A9 A10 A11 A12 A13 = true) (q_x1 : e_x1 = nI x1) (hp : ∀ r w2 w11 w12 w13 w14 w15 : Nat, kp r w2 w11 w12 w13 w14 w15 = true → post (nI r) (S0, S1, (nI w2), A1, A2, A3, (zq_g A4), A5, A6, A7, A8, (zq_g w11), (zq_g w12), (zq_g w13), (zq_g w14), (zq_g w15), A14, A15, A16, A17)) : wX_byCouples_36 post fu e_x1 S0 S1 (nI S2) A1 A2 A3 (zq_g A4) A5 A6 A7 A8 (zq_g A9) (zq_g A10) (zq_g A11) (zq_g A12) (zq_g A13) A14 A15 A16 A17 := by
  exact zr_X_byCouples_36 hp fu _ _ _ _ _ _ _ _ h q_x1
/-- 1024 cells: 1, then 0 -/
noncomputable def zb_X_byCouples_6 (kp : Nat → Nat → Nat → Nat → Nat → Nat → Nat → Bool) (S2 A4 A9 A10 A11 A12 A13 : Nat) : Bool :=
  zq_if (Nat.beq (Nat.shiftRight A12 (nat_lit 32768)) (nat_lit 0)) (zb_X_byCouples_36 kp A4 40 (nat_lit 0) S2 A9 A10 A11 (nat_lit 1) A13) false
theorem zs_X_byCouples_6 {post : Int32 → St2 → Prop} {kp : Nat → Nat → Nat → Nat → Nat → Nat → Nat → Bool} {S2 : Nat} {A4 : Nat} {A9 : Nat} {A10 : Nat} {A11 : Nat} {A12 : Nat} {A13 : Nat} {S0 : Int32} {S1 : Int32} {A1 : Nat → Int32} {A2 : Nat → Int32} {A3 : Nat → Int32} {A5 : Nat → Int32} {A6 : Nat → Int32} {A7 : Nat → Int32} {A8 : Nat → Int32} {A14 : Nat → Int32} {A15 : Nat → Int32} {A16 : Nat → Int32} {A17 : Nat → Int32} (h : zb_X_byCouples_6 kp S2 A4 A9 A10 A11 A12 A13 = true) (hp : ∀ r w2 w11 w12 w13 w14 w15 : Nat, kp r w2 w11 w12 w13 w14 w15 = true → post (nI r) (S0, S1, (nI w2), A1, A2, A3, (zq_g A4), A5, A6, A7, A8, (zq_g w11), (zq_g w12), (zq_g w13), (zq_g w14), (zq_g w15), A14, A15, A16, A17)) : ∃ fu : Nat, wX_byCouples_6 post S0 S1 (nI S2) fu 0 A1 A2 A3 (zq_g A4) A5 A6 A7 A8 (zq_g A9) (zq_g A10) (zq_g A11) (zq_g A12) (zq_g A13) A14 A15 A16 A17 := by
  obtain ⟨h1, h⟩ := zq_ift h
  have ht : ∀ j, 1024 ≤ j → zq_g (nat_lit 1) j = 0 := fun j hj => by rw [zq_one, if_neg (fun c => by omega)]
  exact ⟨1024 + 1, zq_fill (N := 1024) (by decide) (W := fun n x a => wX_byCouples_6 post S0 S1 (nI S2) n x A1 A2 A3 (zq_g A4) A5 A6 A7 A8 (zq_g A9) (zq_g A10) (zq_g A11) a (zq_g A13) A14 A15 A16 A17) (E := fun a => ∃ fu36 : Nat, wX_byCouples_36 post fu36 0 S0 S1 (nI S2) A1 A2 A3 (zq_g A4) A5 A6 A7 A8 (zq_g A9) (zq_g A10) (zq_g A11) a (zq_g A13) A14 A15 A16 A17) (val := fun x => if x = 0 then 1 else 0)
    (fun n x a g => And.intro g.1 (fun c => And.intro
      (fun z => And.intro (g.2 c).1 (fun b eb => (g.2 c).2 b (by rw [eb, if_pos z])))
      (fun z => And.intro (g.2 c).1 (fun b eb => (g.2 c).2 b (by rw [eb, if_neg z]))))) (zq_g A12) (zq_g (nat_lit 1)) (fun j hj => zq_one2 hj) (fun j hj => (zq_hi2 h1 hj).trans (ht j hj).symm) (Exists.intro 40 (zs_X_byCouples_36 h rfl hp))⟩
noncomputable def zb_X_byCouples (kp : Nat → Nat → Nat → Nat → Nat → Nat → Nat → Bool) (S2 : Nat) (A4 : Nat) (A9 : Nat) (A10 : Nat) (A11 : Nat) (A12 : Nat) (A13 : Nat) : Bool :=
        zb_X_listCouples (fun f0_coupleCount_4 am110_34 am111_37 => zb_X_byCouples_6 kp f0_coupleCount_4 A4 A9 am110_34 am111_37 A12 A13) S2 A4 A10 A11
theorem zs_X_byCouples {post : Int32 → St2 → Prop} {kp : Nat → Nat → Nat → Nat → Nat → Nat → Nat → Bool} {S2 : Nat} {A4 : Nat} {A9 : Nat} {A10 : Nat} {A11 : Nat} {A12 : Nat} {A13 : Nat} {S0 : Int32} {S1 : Int32} {A1 : Nat → Int32} {A2 : Nat → Int32} {A3 : Nat → Int32} {A5 : Nat → Int32} {A6 : Nat → Int32} {A7 : Nat → Int32} {A8 : Nat → Int32} {A14 : Nat → Int32} {A15 : Nat → Int32} {A16 : Nat → Int32} {A17 : Nat → Int32} (h : zb_X_byCouples kp S2 A4 A9 A10 A11 A12 A13 = true) (hp : ∀ r w2 w11 w12 w13 w14 w15 : Nat, kp r w2 w11 w12 w13 w14 w15 = true → post (nI r) (S0, S1, (nI w2), A1, A2, A3, (zq_g A4), A5, A6, A7, A8, (zq_g w11), (zq_g w12), (zq_g w13), (zq_g w14), (zq_g w15), A14, A15, A16, A17)) : wpX_byCouples post (S0, S1, (nI S2), A1, A2, A3, (zq_g A4), A5, A6, A7, A8, (zq_g A9), (zq_g A10), (zq_g A11), (zq_g A12), (zq_g A13), A14, A15, A16, A17) := by
  have h : (zb_X_listCouples (fun f0_coupleCount_4 am110_34 am111_37 => zb_X_byCouples_6 kp f0_coupleCount_4 A4 A9 am110_34 am111_37 A12 A13) S2 A4 A10 A11) = true := h
  exact zs_X_listCouples h (fun f0_coupleCount_4 am110_34 am111_37 h => zs_X_byCouples_6 h hp)
end
section
/-! printed by gen.py: wX_passOver_66 .. wpX_byElimination -/
noncomputable def zb_X_passOver_66 (kp : Nat → Bool) (kJ2 : Nat → Nat → Bool) (x1 : Nat) (x2 : Nat) (x3 : Nat) (z0 : Nat) (A8 : Nat) : Bool :=
        zq_if (zq_in (zq_add (zq_mul (nat_lit 5) x1) x3) (nat_lit 25))
        (zq_if (zq_le z0 (zq_get A8 (zq_cl (zq_add (zq_mul (nat_lit 5) x1) x3))))
        (zq_fc (zq_add x3 (nat_lit 1)) (fun x3_11 => kJ2 x3_11 A8))
        (zq_if (zq_in (zq_add (zq_mul (nat_lit 5) x1) x3) (nat_lit 25))
        (zq_fc (zq_set A8 (zq_cl (zq_add (zq_mul (nat_lit 5) x1) x3)) (zq_i8 z0)) (fun a8_13 => zq_fc (zq_add x3 (nat_lit 1)) (fun x3_14 => kJ2 x3_14 a8_13))) false)) false
theorem zs_X_passOver_66 {post : St2 → Prop} {J2 : Int32 → (Nat → Int32) → (Nat → Int32) → (Nat → Int32) → (Nat → Int32) → (Nat → Int32) → (Nat → Int32) → (Nat → Int32) → (Nat → Int32) → (Nat → Int32) → (Nat → Int32) → (Nat → Int32) → (Nat → Int32) → (Nat → Int32) → (Nat → Int32) → (Nat → Int32) → (Nat → Int32) → (Nat → Int32) → Prop} {kp : Nat → Bool} {kJ2 : Nat → Nat → Bool} {x1 : Nat} {x2 : Nat} {x3 : Nat} {z0 : Nat} {A8 : Nat} {S0 : Int32} {S1 : Int32} {S2 : Int32} {A1 : Nat → Int32} {A2 : Nat → Int32} {A3 : Nat → Int32} {A4 : Nat → Int32} {A5 : Nat → Int32} {A6 : Nat → Int32} {A7 : Nat → Int32} {A9 : Nat → Int32} {A10 : Nat → Int32} {A11 : Nat → Int32} {A12 : Nat → Int32} {A13 : Nat → Int32} {A14 : Nat → Int32} {A15 : Nat → Int32} {A16 : Nat → Int32} {A17 : Nat → Int32} {e_x1 : Int32} {e_x2 : Int32} {e_x3 : Int32} {e_z0 : Int32} (h : zb_X_passOver_66 kp kJ2 x1 x2 x3 z0 A8 = true) (q_x1 : e_x1 = nI x1) (q_x2 : e_x2 = nI x2) (q_x3 : e_x3 = nI x3) (q_z0 : e_z0 = nI z0) (hp : ∀ w10 : Nat, kp w10 = true → post (S0, S1, S2, A1, A2, A3, A4, A5, A6, A7, (zq_g w10), A9, A10, A11, A12, A13, A14, A15, A16, A17)) (hJ2 : ∀ y_x3 v10 : Nat, kJ2 y_x3 v10 = true → J2 (nI y_x3) A1 A2 A3 A4 A5 A6 A7 (zq_g v10) A9 A10 A11 A12 A13 A14 A15 A16 A17) : wX_passOver_66 post J2 e_x1 e_x2 e_x3 e_z0 S0 S1 S2 A1 A2 A3 A4 A5 A6 A7 (zq_g A8) A9 A10 A11 A12 A13 A14 A15 A16 A17 := by
  subst q_x1; subst q_x2; subst q_x3; subst q_z0; have h : (zq_if (zq_in (zq_add (zq_mul (nat_lit 5) x1) x3) (nat_lit 25))
        (zq_if (zq_le z0 (zq_get A8 (zq_cl (zq_add (zq_mul (nat_lit 5) x1) x3))))
        (zq_fc (zq_add x3 (nat_lit 1)) (fun x3_11 => kJ2 x3_11 A8))
        (zq_if (zq_in (zq_add (zq_mul (nat_lit 5) x1) x3) (nat_lit 25))
        (zq_fc (zq_set A8 (zq_cl (zq_add (zq_mul (nat_lit 5) x1) x3)) (zq_i8 z0)) (fun a8_13 => zq_fc (zq_add x3 (nat_lit 1)) (fun x3_14 => kJ2 x3_14 a8_13))) false)) false) = true := h
  exact zq_vi h (zq_hadd (zq_hmul rfl rfl) rfl) (by decide) (fun h => zq_br h (zq_cle rfl (zq_rd (zq_hadd (zq_hmul rfl rfl) rfl)))
        (fun h => zq_ly h (zq_hadd rfl rfl) (fun x3_11 h => hJ2 _ _ h))
        (fun h => zq_vi h (zq_hadd (zq_hmul rfl rfl) rfl) (by decide) (fun h => zq_up h (zq_hadd (zq_hmul rfl rfl) rfl) (zq_hi8 rfl) (fun a8_13 h => zq_ly h (zq_hadd rfl rfl) (fun x3_14 h => hJ2 _ _ h)))))
noncomputable def zb_X_passOver_2 (kp : Nat → Bool) (x1 : Nat) (x2 : Nat) : Nat → Nat → Nat → Bool := fun fu => @Nat.rec (fun _ => Nat → Nat → Bool) (fun _ _ => false) (fun _ ih => fun x3 A8 =>
        zq_if (zq_le (nat_lit 5) x3)
        (kp A8)
        (zq_if (zq_eq x3 x1)
        (zq_fc (zq_add x3 (nat_lit 1)) (fun x3_3 => ih x3_3 A8))
        (zq_if (zq_eq x3 x2)
        (zq_fc (zq_add x3 (nat_lit 1)) (fun x3_16 => ih x3_16 A8))
        (zq_if (zq_in (zq_add (zq_mul (nat_lit 5) x1) x2) (nat_lit 25))
        (zq_if (zq_in (zq_add (zq_mul (nat_lit 5) x2) x3) (nat_lit 25))
        (zq_if (zq_le (zq_get A8 (zq_cl (zq_add (zq_mul (nat_lit 5) x2) x3))) (zq_get A8 (zq_cl (zq_add (zq_mul (nat_lit 5) x1) x2))))
        (zq_if (zq_in (zq_add (zq_mul (nat_lit 5) x2) x3) (nat_lit 25))
        (zq_fc (zq_get A8 (zq_cl (zq_add (zq_mul (nat_lit 5) x2) x3))) (fun y1 => zb_X_passOver_66 kp ih x1 x2 x3 y1 A8)) false)
        (zq_if (zq_in (zq_add (zq_mul (nat_lit 5) x1) x2) (nat_lit 25))
        (zq_fc (zq_get A8 (zq_cl (zq_add (zq_mul (nat_lit 5) x1) x2))) (fun y2 => zb_X_passOver_66 kp ih x1 x2 x3 y2 A8)) false)) false) false)))) fu
theorem zr_X_passOver_2 {post : St2 → Prop} {kp : Nat → Bool} {x1 : Nat} {x2 : Nat} {S0 : Int32} {S1 : Int32} {S2 : Int32} {A1 : Nat → Int32} {A2 : Nat → Int32} {A3 : Nat → Int32} {A4 : Nat → Int32} {A5 : Nat → Int32} {A6 : Nat → Int32} {A7 : Nat → Int32} {A9 : Nat → Int32} {A10 : Nat → Int32} {A11 : Nat → Int32} {A12 : Nat → Int32} {A13 : Nat → Int32} {A14 : Nat → Int32} {A15 : Nat → Int32} {A16 : Nat → Int32} {A17 : Nat → Int32} (hp : ∀ w10 : Nat, kp w10 = true → post (S0, S1, S2, A1, A2, A3, A4, A5, A6, A7, (zq_g w10), A9, A10, A11, A12, A13, A14, A15, A16, A17)) (fu : Nat) : ∀ (x3 : Nat) (A8 : Nat) (e_x3 : Int32), zb_X_passOver_2 kp x1 x2 fu x3 A8 = true → e_x3 = nI x3 → wX_passOver_2 post (nI x1) (nI x2) S0 S1 S2 fu e_x3 A1 A2 A3 A4 A5 A6 A7 (zq_g A8) A9 A10 A11 A12 A13 A14 A15 A16 A17 := by
  induction fu with
  | zero => intro x3 A8 e_x3 h q_x3; exact absurd h Bool.false_ne_true
  | succ n ih =>
    intro x3 A8 e_x3 h q_x3
    subst q_x3; have h : (zq_if (zq_le (nat_lit 5) x3)
        (kp A8)
        (zq_if (zq_eq x3 x1)
        (zq_fc (zq_add x3 (nat_lit 1)) (fun x3_3 => (zb_X_passOver_2 kp x1 x2 n) x3_3 A8))
        (zq_if (zq_eq x3 x2)
        (zq_fc (zq_add x3 (nat_lit 1)) (fun x3_16 => (zb_X_passOver_2 kp x1 x2 n) x3_16 A8))
        (zq_if (zq_in (zq_add (zq_mul (nat_lit 5) x1) x2) (nat_lit 25))
        (zq_if (zq_in (zq_add (zq_mul (nat_lit 5) x2) x3) (nat_lit 25))
        (zq_if (zq_le (zq_get A8 (zq_cl (zq_add (zq_mul (nat_lit 5) x2) x3))) (zq_get A8 (zq_cl (zq_add (zq_mul (nat_lit 5) x1) x2))))
        (zq_if (zq_in (zq_add (zq_mul (nat_lit 5) x2) x3) (nat_lit 25))
        (zq_fc (zq_get A8 (zq_cl (zq_add (zq_mul (nat_lit 5) x2) x3))) (fun y1 => zb_X_passOver_66 kp (zb_X_passOver_2 kp x1 x2 n) x1 x2 x3 y1 A8)) false)
        (zq_if (zq_in (zq_add (zq_mul (nat_lit 5) x1) x2) (nat_lit 25))
        (zq_fc (zq_get A8 (zq_cl (zq_add (zq_mul (nat_lit 5) x1) x2))) (fun y2 => zb_X_passOver_66 kp (zb_X_passOver_2 kp x1 x2 n) x1 x2 x3 y2 A8)) false)) false) false)))) = true := h
    exact zq_br h (zq_cle rfl rfl)
        (fun h => hp _ h)
        (fun h => zq_br h (zq_ceq rfl rfl)
        (fun h => zq_ly h (zq_hadd rfl rfl) (fun x3_3 h => ih _ _ _ h rfl))
        (fun h => zq_br h (zq_ceq rfl rfl)
        (fun h => zq_ly h (zq_hadd rfl rfl) (fun x3_16 h => ih _ _ _ h rfl))
        (fun h => zq_vi h (zq_hadd (zq_hmul rfl rfl) rfl) (by decide) (fun h => zq_vi h (zq_hadd (zq_hmul rfl rfl) rfl) (by decide) (fun h => zq_br h (zq_cle (zq_rd (zq_hadd (zq_hmul rfl rfl) rfl)) (zq_rd (zq_hadd (zq_hmul rfl rfl) rfl)))
        (fun h => zq_vi h (zq_hadd (zq_hmul rfl rfl) rfl) (by decide) (fun h => have h := zq_fe h; zs_X_passOver_66 h rfl rfl rfl (zq_rd (zq_hadd (zq_hmul rfl rfl) rfl)) hp (fun y0 y1 h => ih y0 y1 _ h rfl)))
        (fun h => zq_vi h (zq_hadd (zq_hmul rfl rfl) rfl) (by decide) (fun h => have h := zq_fe h; zs_X_passOver_66 h rfl rfl rfl (zq_rd (zq_hadd (zq_hmul rfl rfl) rfl)) hp (fun y0 y1 h => ih y0 y1 _ h rfl))))))))
theorem zs_X_passOver_2 {post : St2 → Prop} {kp : Nat → Bool} {x1 : Nat} {x2 : Nat} {x3 : Nat} {A8 : Nat} {S0 : Int32} {S1 : Int32} {S2 : Int32} {A1 : Nat → Int32} {A2 : Nat → Int32} {A3 : Nat → Int32} {A4 : Nat → Int32} {A5 : Nat → Int32} {A6 : Nat → Int32} {A7 : Nat → Int32} {A9 : Nat → Int32} {A10 : Nat → Int32} {A11 : Nat → Int32} {A12 : Nat → Int32} {A13 : Nat → Int32} {A14 : Nat → Int32} {A15 : Nat → Int32} {A16 : Nat → Int32} {A17 : Nat → Int32} {e_x1 : Int32} {e_x2 : Int32} {e_x3 : Int32} {fu : Nat} (h : zb_X_passOver_2 kp x1 x2 fu x3 A8 = true) (q_x1 : e_x1 = nI x1) (q_x2 : e_x2 = nI x2) (q_x3 : e_x3 = nI x3) (hp : ∀ w10 : Nat, kp w10 = true → post (S0, S1, S2, A1, A2, A3, A4, A5, A6, A7, (zq_g w10), A9, A10, A11, A12, A13, A14, A15, A16, A17)) : wX_passOver_2 post e_x1 e_x2 S0 S1 S2 fu e_x3 A1 A2 A3 A4 A5 A6 A7 (zq_g A8) A9 A10 A11 A12 A13 A14 A15 A16 A17 := by
  subst q_x1; subst q_x2; exact zr_X_passOver_2 hp fu _ _ _ h q_x3
noncomputable def zb_X_passOver (kp : Nat → Bool) (p0 : Nat) (p1 : Nat) (A8 : Nat) : Bool :=
        zb_X_passOver_2 kp p0 p1 40 (nat_lit 0) A8
theorem zs_X_passOver {post : St2 → Prop} {kp : Nat → Bool} {p0 : Nat} {p1 : Nat} {A8 : Nat} {S0 : Int32} {S1 : Int32} {S2 : Int32} {A1 : Nat → Int32} {A2 : Nat → Int32} {A3 : Nat → Int32} {A4 : Nat → Int32} {A5 : Nat → Int32} {A6 : Nat → Int32} {A7 : Nat → Int32} {A9 : Nat → Int32} {A10 : Nat → Int32} {A11 : Nat → Int32} {A12 : Nat → Int32} {A13 : Nat → Int32} {A14 : Nat → Int32} {A15 : Nat → Int32} {A16 : Nat → Int32} {A17 : Nat → Int32} {e_p0 : Int32} {e_p1 : Int32} (h : zb_X_passOver kp p0 p1 A8 = true) (q_p0 : e_p0 = nI p0) (q_p1 : e_p1 = nI p1) (hp : ∀ w10 : Nat, kp w10 = true → post (S0, S1, S2, A1, A2, A3, A4, A5, A6, A7, (zq_g w10), A9, A10, A11, A12, A13, A14, A15, A16, A17)) : wpX_passOver post (S0, S1, S2, A1, A2, A3, A4, A5, A6, A7, (zq_g A8), A9, A10, A11, A12, A13, A14, A15, A16, A17) e_p0 e_p1 := by
  subst q_p0; subst q_p1; have h : (zb_X_passOver_2 kp p0 p1 40 (nat_lit 0) A8) = true := h
  exact Exists.intro 40 (zs_X_passOver_2 h rfl rfl rfl hp)
noncomputable def zb_X_findStrengths_48 (kp : Nat → Bool) (kJ41 : Nat → Nat → Bool) (x1 : Nat) (A4 : Nat) : Nat → Nat → Nat → Bool := fun fu => @Nat.rec (fun _ => Nat → Nat → Bool) (fun _ _ => false) (fun _ ih => fun x2 A8 =>
        zq_if (zq_le (nat_lit 5) x2)
        (zq_fc (zq_add x1 (nat_lit 1)) (fun x1_4 => kJ41 x1_4 A8))
        (zq_if (zq_eq x2 x1)
        (zq_fc (zq_add x2 (nat_lit 1)) (fun x2_6 => ih x2_6 A8))
        (zb_X_passOver (fun am618_34 => zq_fc (zq_add x2 (nat_lit 1)) (fun x2_62 => ih x2_62 am618_34)) x2 x1 A8))) fu
theorem zr_X_findStrengths_48 {post : St2 → Prop} {J41 : Int32 → Int32 → Int32 → Int32 → (Nat → Int32) → (Nat → Int32) → (Nat → Int32) → (Nat → Int32) → (Nat → Int32) → (Nat → Int32) → (Nat → Int32) → (Nat → Int32) → (Nat → Int32) → (Nat → Int32) → (Nat → Int32) → (Nat → Int32) → (Nat → Int32) → (Nat → Int32) → (Nat → Int32) → (Nat → Int32) → (Nat → Int32) → Prop} {kp : Nat → Bool} {kJ41 : Nat → Nat → Bool} {x1 : Nat} {A4 : Nat} {S0 : Int32} {S1 : Int32} {S2 : Int32} {A1 : Nat → Int32} {A2 : Nat → Int32} {A3 : Nat → Int32} {A5 : Nat → Int32} {A6 : Nat → Int32} {A7 : Nat → Int32} {A9 : Nat → Int32} {A10 : Nat → Int32} {A11 : Nat → Int32} {A12 : Nat → Int32} {A13 : Nat → Int32} {A14 : Nat → Int32} {A15 : Nat → Int32} {A16 : Nat → Int32} {A17 : Nat → Int32} (hp : ∀ w10 : Nat, kp w10 = true → post (S0, S1, S2, A1, A2, A3, (zq_g A4), A5, A6, A7, (zq_g w10), A9, A10, A11, A12, A13, A14, A15, A16, A17)) (hJ41 : ∀ y_x1 v10 : Nat, kJ41 y_x1 v10 = true → J41 (nI y_x1) S0 S1 S2 A1 A2 A3 (zq_g A4) A5 A6 A7 (zq_g v10) A9 A10 A11 A12 A13 A14 A15 A16 A17) (fu : Nat) : ∀ (x2 : Nat) (A8 : Nat) (e_x2 : Int32), zb_X_findStrengths_48 kp kJ41 x1 A4 fu x2 A8 = true → e_x2 = nI x2 → wX_findStrengths_48 post J41 (nI x1) fu e_x2 S0 S1 S2 A1 A2 A3 (zq_g A4) A5 A6 A7 (zq_g A8) A9 A10 A11 A12 A13 A14 A15 A16 A17 := by
  induction fu with
  | zero => intro x2 A8 e_x2 h q_x2; exact absurd h Bool.false_ne_true
  | succ n ih =>
    intro x2 A8 e_x2 h q_x2
    subst q_x2; have h : (zq_if (zq_le (nat_lit 5) x2)
        (zq_fc (zq_add x1 (nat_lit 1)) (fun x1_4 => kJ41 x1_4 A8))
        (zq_if (zq_eq x2 x1)
        (zq_fc (zq_add x2 (nat_lit 1)) (fun x2_6 => (zb_X_findStrengths_48 kp kJ41 x1 A4 n) x2_6 A8))
        (zb_X_passOver (fun am618_34 => zq_fc (zq_add x2 (nat_lit 1)) (fun x2_62 => (zb_X_findStrengths_48 kp kJ41 x1 A4 n) x2_62 am618_34)) x2 x1 A8))) = true := h
    exact zq_br h (zq_cle rfl rfl)
        (fun h => zq_ly h (zq_hadd rfl rfl) (fun x1_4 h => hJ41 _ _ h))
        (fun h => zq_br h (zq_ceq rfl rfl)
        (fun h => zq_ly h (zq_hadd rfl rfl) (fun x2_6 h => ih _ _ _ h rfl))
        (fun h => zs_X_passOver h rfl rfl (fun am618_34 h => zq_ly h (zq_hadd rfl rfl) (fun x2_62 h => ih _ _ _ h rfl))))
theorem zs_X_findStrengths_48 {post : St2 → Prop} {J41 : Int32 → Int32 → Int32 → Int32 → (Nat → Int32) → (Nat → Int32) → (Nat → Int32) → (Nat → Int32) → (Nat → Int32) → (Nat → Int32) → (Nat → Int32) → (Nat → Int32) → (Nat → Int32) → (Nat → Int32) → (Nat → Int32) → (Nat → Int32) → (Nat → Int32) → (Nat → Int32) → (Nat → Int32) → (Nat → Int32) → (Nat → Int32) → Prop} {kp : Nat → Bool} {kJ41 : Nat → Nat → Bool} {x1 : Nat} {A4 : Nat} {x2 : Nat} {A8 : Nat} {S0 : Int32} {S1 : Int32} {S2 : Int32} {A1 : Nat → Int32} {A2 : Nat → Int32} {A3 : Nat → Int32} {A5 : Nat → Int32} {A6 : Nat → Int32} {A7 : Nat → Int32} {A9 : Nat → Int32} {A10 : Nat → Int32} {A11 : Nat → Int32} {A12 : Nat → Int32} {A13 : Nat → Int32} {A14 : Nat → Int32} {A15 : Nat → Int32} {A16 : Nat → Int32} {A17 : Nat → Int32} {e_x1 : Int32} {e_x2 : Int32} {fu : Nat} (h : zb_X_findStrengths_48 kp kJ41 x1 A4 fu x2 A8 = true) (q_x1 : e_x1 = nI x1) (q_x2 : e_x2 = nI x2) (hp : ∀ w10 : Nat, kp w10 = true → post (S0, S1, S2, A1, A2, A3, (zq_g A4), A5, A6, A7, (zq_g w10), A9, A10, A11, A12, A13, A14, A15, A16, A17)) (hJ41 : ∀ y_x1 v10 : Nat, kJ41 y_x1 v10 = true → J41 (nI y_x1) S0 S1 S2 A1 A2 A3 (zq_g A4) A5 A6 A7 (zq_g v10) A9 A10 A11 A12 A13 A14 A15 A16 A17) : wX_findStrengths_48 post J41 e_x1 fu e_x2 S0 S1 S2 A1 A2 A3 (zq_g A4) A5 A6 A7 (zq_g A8) A9 A10 A11 A12 A13 A14 A15 A16 A17 := by
  subst q_x1; exact zr_X_findStrengths_48 hp hJ41 fu _ _ _ h q_x2
noncomputable def zb_X_findStrengths_41 (kp : Nat → Bool) (A4 : Nat) : Nat → Nat → Nat → Bool := fun fu => @Nat.rec (fun _ => Nat → Nat → Bool) (fun _ _ => false) (fun _ ih => fun x1 A8 =>
        zq_if (zq_le (nat_lit 5) x1)
        (kp A8)
        (zb_X_findStrengths_48 kp ih x1 A4 40 (nat_lit 0) A8)) fu
theorem zr_X_findStrengths_41 {post : St2 → Prop} {kp : Nat → Bool} {A4 : Nat} {S0 : Int32} {S1 : Int32} {S2 : Int32} {A1 : Nat → Int32} {A2 : Nat → Int32} {A3 : Nat → Int32} {A5 : Nat → Int32} {A6 : Nat → Int32} {A7 : Nat → Int32} {A9 : Nat → Int32} {A10 : Nat → Int32} {A11 : Nat → Int32} {A12 : Nat → Int32} {A13 : Nat → Int32} {A14 : Nat → Int32} {A15 : Nat → Int32} {A16 : Nat → Int32} {A17 : Nat → Int32} (hp : ∀ w10 : Nat, kp w10 = true → post (S0, S1, S2, A1, A2, A3, (zq_g A4), A5, A6, A7, (zq_g w10), A9, A10, A11, A12, A13, A14, A15, A16, A17)) (fu : Nat) : ∀ (x1 : Nat) (A8 : Nat) (e_x1 : Int32), zb_X_findStrengths_41 kp A4 fu x1 A8 = true → e_x1 = nI x1 → wX_findStrengths_41 post fu e_x1 S0 S1 S2 A1 A2 A3 (zq_g A4) A5 A6 A7 (zq_g A8) A9 A10 A11 A12 A13 A14 A15 A16 A17 := by
  induction fu with
  | zero => intro x1 A8 e_x1 h q_x1; exact absurd h Bool.false_ne_true
  | succ n ih =>
    intro x1 A8 e_x1 h q_x1
    subst q_x1; have h : (zq_if (zq_le (nat_lit 5) x1)
        (kp A8)
        (zb_X_findStrengths_48 kp (zb_X_findStrengths_41 kp A4 n) x1 A4 40 (nat_lit 0) A8)) = true := h
    exact zq_br h (zq_cle rfl rfl)
        (fun h => hp _ h)
        (fun h => Exists.intro 40 (zs_X_findStrengths_48 h rfl rfl hp (fun y0 y1 h => ih y0 y1 _ h rfl)))
theorem zs_X_findStrengths_41 {post : St2 → Prop} {kp : Nat → Bool} {A4 : Nat} {x1 : Nat} {A8 : Nat} {S0 : Int32} {S1 : Int32} {S2 : Int32} {A1 : Nat → Int32} {A2 : Nat → Int32} {A3 : Nat → Int32} {A5 : Nat → Int32} {A6 : Nat → Int32} {A7 : Nat → Int32} {A9 : Nat → Int32} {A10 : Nat → Int32} {A11 : Nat → Int32} {A12 : Nat → Int32} {A13 : Nat → Int32} {A14 : Nat → Int32} {A15 : Nat → Int32} {A16 : Nat → Int32} {A17 : Nat → Int32} {e_x1 : Int32} {fu : Nat} (h : zb_X_findStrengths_41 kp A4 fu x1 A8 = true) (q_x1 : e_x1 = nI x1) (hp : ∀ w10 : Nat, kp w10 = true → post (S0, S1, S2, A1, A2, A3, (zq_g A4), A5, A6, A7, (zq_g w10), A9, A10, A11, A12, A13, A14, A15, A16, A17)) : wX_findStrengths_41 post fu e_x1 S0 S1 S2 A1 A2 A3 (zq_g A4) A5 A6 A7 (zq_g A8) A9 A10 A11 A12 A13 A14 A15 A16 A17 := by
  exact zr_X_findStrengths_41 hp fu _ _ _ h q_x1
noncomputable def zb_X_findStrengths_2 (kp : Nat → Bool) (A4 : Nat) : Nat → Nat → Nat → Bool := fun fu => @Nat.rec (fun _ => Nat → Nat → Bool) (fun _ _ => false) (fun _ ih => fun x1 A8 =>
        zq_if (zq_le (nat_lit 25) x1)
        (zb_X_findStrengths_41 kp A4 40 (nat_lit 0) A8)
        (zq_if (zq_in x1 (nat_lit 25))
        (zq_if (zq_le (zq_get A4 (zq_cl x1)) (nat_lit 0))
        (zq_if (zq_in x1 (nat_lit 25))
        (zq_fc (zq_set A8 (zq_cl x1) (nat_lit 0)) (fun a8_66 => zq_fc (zq_add x1 (nat_lit 1)) (fun x1_67 => ih x1_67 a8_66))) false)
        (zq_if (zq_in x1 (nat_lit 25))
        (zq_if (zq_in x1 (nat_lit 25))
        (zq_fc (zq_set A8 (zq_cl x1) (zq_i8 (zq_get A4 (zq_cl x1)))) (fun a8_70 => zq_fc (zq_add x1 (nat_lit 1)) (fun x1_71 => ih x1_71 a8_70))) false) false)) false)) fu
theorem zr_X_findStrengths_2 {post : St2 → Prop} {kp : Nat → Bool} {A4 : Nat} {S0 : Int32} {S1 : Int32} {S2 : Int32} {A1 : Nat → Int32} {A2 : Nat → Int32} {A3 : Nat → Int32} {A5 : Nat → Int32} {A6 : Nat → Int32} {A7 : Nat → Int32} {A9 : Nat → Int32} {A10 : Nat → Int32} {A11 : Nat → Int32} {A12 : Nat → Int32} {A13 : Nat → Int32} {A14 : Nat → Int32} {A15 : Nat → Int32} {A16 : Nat → Int32} {A17 : Nat → Int32} (hp : ∀ w10 : Nat, kp w10 = true → post (S0, S1, S2, A1, A2, A3, (zq_g A4), A5, A6, A7, (zq_g w10), A9, A10, A11, A12, A13, A14, A15, A16, A17)) (fu : Nat) : ∀ (x1 : Nat) (A8 : Nat) (e_x1 : Int32), zb_X_findStrengths_2 kp A4 fu x1 A8 = true → e_x1 = nI x1 → wX_findStrengths_2 post S0 S1 S2 fu e_x1 A1 A2 A3 (zq_g A4) A5 A6 A7 (zq_g A8) A9 A10 A11 A12 A13 A14 A15 A16 A17 := by
  induction fu with
  | zero => intro x1 A8 e_x1 h q_x1; exact absurd h Bool.false_ne_true
  | succ n ih =>
    intro x1 A8 e_x1 h q_x1
    subst q_x1; have h : (zq_if (zq_le (nat_lit 25) x1)
        (zb_X_findStrengths_41 kp A4 40 (nat_lit 0) A8)
        (zq_if (zq_in x1 (nat_lit 25))
        (zq_if (zq_le (zq_get A4 (zq_cl x1)) (nat_lit 0))
        (zq_if (zq_in x1 (nat_lit 25))
        (zq_fc (zq_set A8 (zq_cl x1) (nat_lit 0)) (fun a8_66 => zq_fc (zq_add x1 (nat_lit 1)) (fun x1_67 => (zb_X_findStrengths_2 kp A4 n) x1_67 a8_66))) false)
        (zq_if (zq_in x1 (nat_lit 25))
        (zq_if (zq_in x1 (nat_lit 25))
        (zq_fc (zq_set A8 (zq_cl x1) (zq_i8 (zq_get A4 (zq_cl x1)))) (fun a8_70 => zq_fc (zq_add x1 (nat_lit 1)) (fun x1_71 => (zb_X_findStrengths_2 kp A4 n) x1_71 a8_70))) false) false)) false)) = true := h
    exact zq_br h (zq_cle rfl rfl)
        (fun h => Exists.intro 40 (zs_X_findStrengths_41 h rfl hp))
        (fun h => zq_vi h rfl (by decide) (fun h => zq_br h (zq_cle (zq_rd rfl) rfl)
        (fun h => zq_vi h rfl (by decide) (fun h => zq_up h rfl rfl (fun a8_66 h => zq_ly h (zq_hadd rfl rfl) (fun x1_67 h => ih _ _ _ h rfl))))
        (fun h => zq_vi h rfl (by decide) (fun h => zq_vi h rfl (by decide) (fun h => zq_up h rfl (zq_hnb (zq_rd rfl)) (fun a8_70 h => zq_ly h (zq_hadd rfl rfl) (fun x1_71 h => ih _ _ _ h rfl)))))))
theorem zs_X_findStrengths_2 {post : St2 → Prop} {kp : Nat → Bool} {A4 : Nat} {x1 : Nat} {A8 : Nat} {S0 : Int32} {S1 : Int32} {S2 : Int32} {A1 : Nat → Int32} {A2 : Nat → Int32} {A3 : Nat → Int32} {A5 : Nat → Int32} {A6 : Nat → Int32} {A7 : Nat → Int32} {A9 : Nat → Int32} {A10 : Nat → Int32} {A11 : Nat → Int32} {A12 : Nat → Int32} {A13 : Nat → Int32} {A14 : Nat → Int32} {A15 : Nat → Int32} {A16 : Nat → Int32} {A17 : Nat → Int32} {e_x1 : Int32} {fu : Nat} (h : zb_X_findStrengths_2 kp A4 fu x1 A8 = true) (q_x1 : e_x1 = nI x1) (hp : ∀ w10 : Nat, kp w10 = true → post (S0, S1, S2, A1, A2, A3, (zq_g A4), A5, A6, A7, (zq_g w10), A9, A10, A11, A12, A13, A14, A15, A16, A17)) : wX_findStrengths_2 post S0 S1 S2 fu e_x1 A1 A2 A3 (zq_g A4) A5 A6 A7 (zq_g A8) A9 A10 A11 A12 A13 A14 A15 A16 A17 := by
  exact zr_X_findStrengths_2 hp fu _ _ _ h q_x1
noncomputable def zb_X_findStrengths (kp : Nat → Bool) (A4 : Nat) (A8 : Nat) : Bool :=
        zb_X_findStrengths_2 kp A4 40 (nat_lit 0) A8
theorem zs_X_findStrengths {post : St2 → Prop} {kp : Nat → Bool} {A4 : Nat} {A8 : Nat} {S0 : Int32} {S1 : Int32} {S2 : Int32} {A1 : Nat → Int32} {A2 : Nat → Int32} {A3 : Nat → Int32} {A5 : Nat → Int32} {A6 : Nat → Int32} {A7 : Nat → Int32} {A9 : Nat → Int32} {A10 : Nat → Int32} {A11 : Nat → Int32} {A12 : Nat → Int32} {A13 : Nat → Int32} {A14 : Nat → Int32} {A15 : Nat → Int32} {A16 : Nat → Int32} {A17 : Nat → Int32} (h : zb_X_findStrengths kp A4 A8 = true) (hp : ∀ w10 : Nat, kp w10 = true → post (S0, S1, S2, A1, A2, A3, (zq_g A4), A5, A6, A7, (zq_g w10), A9, A10, A11, A12, A13, A14, A15, A16, A17)) : wpX_findStrengths post (S0, S1, S2, A1, A2, A3, (zq_g A4), A5, A6, A7, (zq_g A8), A9, A10, A11, A12, A13, A14, A15, A16, A17) := by
  have h : (zb_X_findStrengths_2 kp A4 40 (nat_lit 0) A8) = true := h
  exact Exists.intro 40 (zs_X_findStrengths_2 h rfl hp)
noncomputable def zb_X_byStrength_65 (kp : Nat → Nat → Bool) (kJ8 : Nat → Nat → Bool) (x1 : Nat) (x2 : Nat) (x3 : Nat) (A4 : Nat) (A8 : Nat) : Bool :=
        zq_if (zq_eq x3 (nat_lit 0))
        (zq_fc (zq_add x2 (nat_lit 1)) (fun x2_59 => kJ8 x1 x2_59))
        (zq_fc (zq_or x1 (zq_shl (nat_lit 1) x2)) (fun x1_60 => zq_fc (zq_add x2 (nat_lit 1)) (fun x2_61 => kJ8 x1_60 x2_61)))
theorem zs_X_byStrength_65 {post : Int32 → St2 → Prop} {J8 : Int32 → Int32 → Prop} {kp : Nat → Nat → Bool} {kJ8 : Nat → Nat → Bool} {x1 : Nat} {x2 : Nat} {x3 : Nat} {A4 : Nat} {A8 : Nat} {S0 : Int32} {S1 : Int32} {S2 : Int32} {A1 : Nat → Int32} {A2 : Nat → Int32} {A3 : Nat → Int32} {A5 : Nat → Int32} {A6 : Nat → Int32} {A7 : Nat → Int32} {A9 : Nat → Int32} {A10 : Nat → Int32} {A11 : Nat → Int32} {A12 : Nat → Int32} {A13 : Nat → Int32} {A14 : Nat → Int32} {A15 : Nat → Int32} {A16 : Nat → Int32} {A17 : Nat → Int32} {e_x1 : Int32} {e_x2 : Int32} {e_x3 : Int32} (h : zb_X_byStrength_65 kp kJ8 x1 x2 x3 A4 A8 = true) (q_x1 : e_x1 = nI x1) (q_x2 : e_x2 = nI x2) (q_x3 : e_x3 = nI x3) (hp : ∀ r w10 : Nat, kp r w10 = true → post (nI r) (S0, S1, S2, A1, A2, A3, (zq_g A4), A5, A6, A7, (zq_g w10), A9, A10, A11, A12, A13, A14, A15, A16, A17)) (hJ8 : ∀ y_x1 y_x2 : Nat, kJ8 y_x1 y_x2 = true → J8 (nI y_x1) (nI y_x2)) : wX_byStrength_65 post J8 e_x1 e_x2 e_x3 S0 S1 S2 A1 A2 A3 (zq_g A4) A5 A6 A7 (zq_g A8) A9 A10 A11 A12 A13 A14 A15 A16 A17 := by
  subst q_x1; subst q_x2; subst q_x3; have h : (zq_if (zq_eq x3 (nat_lit 0))
        (zq_fc (zq_add x2 (nat_lit 1)) (fun x2_59 => kJ8 x1 x2_59))
        (zq_fc (zq_or x1 (zq_shl (nat_lit 1) x2)) (fun x1_60 => zq_fc (zq_add x2 (nat_lit 1)) (fun x2_61 => kJ8 x1_60 x2_61)))) = true := h
  exact zq_br h (zq_ceq rfl rfl)
        (fun h => zq_ly h (zq_hadd rfl rfl) (fun x2_59 h => hJ8 _ _ h))
        (fun h => zq_ly h (zq_hor rfl (zq_hshl rfl rfl)) (fun x1_60 h => zq_ly h (zq_hadd rfl rfl) (fun x2_61 h => hJ8 _ _ h)))
noncomputable def zb_X_byStrength_18 (kp : Nat → Nat → Bool) (kJ8 : Nat → Nat → Bool) (x1 : Nat) (x2 : Nat) (A4 : Nat) (A8 : Nat) : Nat → Nat → Nat → Bool := fun fu => @Nat.rec (fun _ => Nat → Nat → Bool) (fun _ _ => false) (fun _ ih => fun x3 x4 =>
        zq_if (zq_le (nat_lit 5) x4)
        (zb_X_byStrength_65 kp kJ8 x1 x2 x3 A4 A8)
        (zq_if (zq_eq x3 (nat_lit 0))
        (zb_X_byStrength_65 kp kJ8 x1 x2 x3 A4 A8)
        (zq_if (zq_in (zq_add (zq_mul (nat_lit 5) x2) x4) (nat_lit 25))
        (zq_if (zq_in (zq_add (zq_mul (nat_lit 5) x4) x2) (nat_lit 25))
        (zq_if (zq_lt (zq_get A8 (zq_cl (zq_add (zq_mul (nat_lit 5) x2) x4))) (zq_get A8 (zq_cl (zq_add (zq_mul (nat_lit 5) x4) x2))))
        (zq_fc (zq_add x4 (nat_lit 1)) (fun x4_66 => ih (nat_lit 0) x4_66))
        (zq_fc (zq_add x4 (nat_lit 1)) (fun x4_67 => ih (nat_lit 1) x4_67))) false) false))) fu
theorem zr_X_byStrength_18 {post : Int32 → St2 → Prop} {J8 : Int32 → Int32 → Prop} {kp : Nat → Nat → Bool} {kJ8 : Nat → Nat → Bool} {x1 : Nat} {x2 : Nat} {A4 : Nat} {A8 : Nat} {S0 : Int32} {S1 : Int32} {S2 : Int32} {A1 : Nat → Int32} {A2 : Nat → Int32} {A3 : Nat → Int32} {A5 : Nat → Int32} {A6 : Nat → Int32} {A7 : Nat → Int32} {A9 : Nat → Int32} {A10 : Nat → Int32} {A11 : Nat → Int32} {A12 : Nat → Int32} {A13 : Nat → Int32} {A14 : Nat → Int32} {A15 : Nat → Int32} {A16 : Nat → Int32} {A17 : Nat → Int32} (hp : ∀ r w10 : Nat, kp r w10 = true → post (nI r) (S0, S1, S2, A1, A2, A3, (zq_g A4), A5, A6, A7, (zq_g w10), A9, A10, A11, A12, A13, A14, A15, A16, A17)) (hJ8 : ∀ y_x1 y_x2 : Nat, kJ8 y_x1 y_x2 = true → J8 (nI y_x1) (nI y_x2)) (fu : Nat) : ∀ (x3 : Nat) (x4 : Nat) (e_x3 : Int32) (e_x4 : Int32), zb_X_byStrength_18 kp kJ8 x1 x2 A4 A8 fu x3 x4 = true → e_x3 = nI x3 → e_x4 = nI x4 → wX_byStrength_18 post J8 (nI x1) (nI x2) S0 S1 S2 A1 A2 A3 (zq_g A4) A5 A6 A7 (zq_g A8) A9 A10 A11 A12 A13 A14 A15 A16 A17 fu e_x3 e_x4 := by
  induction fu with
  | zero => intro x3 x4 e_x3 e_x4 h q_x3 q_x4; exact absurd h Bool.false_ne_true
  | succ n ih =>
    intro x3 x4 e_x3 e_x4 h q_x3 q_x4
    subst q_x3; subst q_x4; have h : (zq_if (zq_le (nat_lit 5) x4)
        (zb_X_byStrength_65 kp kJ8 x1 x2 x3 A4 A8)
        (zq_if (zq_eq x3 (nat_lit 0))
        (zb_X_byStrength_65 kp kJ8 x1 x2 x3 A4 A8)
        (zq_if (zq_in (zq_add (zq_mul (nat_lit 5) x2) x4) (nat_lit 25))
        (zq_if (zq_in (zq_add (zq_mul (nat_lit 5) x4) x2) (nat_lit 25))
        (zq_if (zq_lt (zq_get A8 (zq_cl (zq_add (zq_mul (nat_lit 5) x2) x4))) (zq_get A8 (zq_cl (zq_add (zq_mul (nat_lit 5) x4) x2))))
        (zq_fc (zq_add x4 (nat_lit 1)) (fun x4_66 => (zb_X_byStrength_18 kp kJ8 x1 x2 A4 A8 n) (nat_lit 0) x4_66))
        (zq_fc (zq_add x4 (nat_lit 1)) (fun x4_67 => (zb_X_byStrength_18 kp kJ8 x1 x2 A4 A8 n) (nat_lit 1) x4_67))) false) false))) = true := h
    exact zq_br h (zq_cle rfl rfl)
        (fun h => zs_X_byStrength_65 h rfl rfl rfl hp hJ8)
        (fun h => zq_br h (zq_ceq rfl rfl)
        (fun h => zs_X_byStrength_65 h rfl rfl rfl hp hJ8)
        (fun h => zq_vi h (zq_hadd (zq_hmul rfl rfl) rfl) (by decide) (fun h => zq_vi h (zq_hadd (zq_hmul rfl rfl) rfl) (by decide) (fun h => zq_br h (zq_clt (zq_rd (zq_hadd (zq_hmul rfl rfl) rfl)) (zq_rd (zq_hadd (zq_hmul rfl rfl) rfl)))
        (fun h => zq_ly h (zq_hadd rfl rfl) (fun x4_66 h => ih _ _ _ _ h rfl rfl))
        (fun h => zq_ly h (zq_hadd rfl rfl) (fun x4_67 h => ih _ _ _ _ h rfl rfl))))))
theorem zs_X_byStrength_18 {post : Int32 → St2 → Prop} {J8 : Int32 → Int32 → Prop} {kp : Nat → Nat → Bool} {kJ8 : Nat → Nat → Bool} {x1 : Nat} {x2 : Nat} {A4 : Nat} {A8 : Nat} {x3 : Nat} {x4 : Nat} {S0 : Int32} {S1 : Int32} {S2 : Int32} {A1 : Nat → Int32} {A2 : Nat → Int32} {A3 : Nat → Int32} {A5 : Nat → Int32} {A6 : Nat → Int32} {A7 : Nat → Int32} {A9 : Nat → Int32} {A10 : Nat → Int32} {A11 : Nat → Int32} {A12 : Nat → Int32} {A13 : Nat → Int32} {A14 : Nat → Int32} {A15 : Nat → Int32} {A16 : Nat → Int32} {A17 : Nat → Int32} {e_x1 : Int32} {e_x2 : Int32} {e_x3 : Int32} {e_x4 : Int32} {fu : Nat} (h : zb_X_byStrength_18 kp kJ8 x1 x2 A4 A8 fu x3 x4 = true) (q_x1 : e_x1 = nI x1) (q_x2 : e_x2 = nI x2) (q_x3 : e_x3 = nI x3) (q_x4 : e_x4 = nI x4) (hp : ∀ r w10 : Nat, kp r w10 = true → post (nI r) (S0, S1, S2, A1, A2, A3, (zq_g A4), A5, A6, A7, (zq_g w10), A9, A10, A11, A12, A13, A14, A15, A16, A17)) (hJ8 : ∀ y_x1 y_x2 : Nat, kJ8 y_x1 y_x2 = true → J8 (nI y_x1) (nI y_x2)) : wX_byStrength_18 post J8 e_x1 e_x2 S0 S1 S2 A1 A2 A3 (zq_g A4) A5 A6 A7 (zq_g A8) A9 A10 A11 A12 A13 A14 A15 A16 A17 fu e_x3 e_x4 := by
  subst q_x1; subst q_x2; exact zr_X_byStrength_18 hp hJ8 fu _ _ _ _ h q_x3 q_x4
noncomputable def zb_X_byStrength_8 (kp : Nat → Nat → Bool) (A4 : Nat) (A8 : Nat) : Nat → Nat → Nat → Bool := fun fu => @Nat.rec (fun _ => Nat → Nat → Bool) (fun _ _ => false) (fun _ ih => fun x1 x2 =>
        zq_if (zq_le (nat_lit 5) x2)
        (kp x1 A8)
        (zb_X_byStrength_18 kp ih x1 x2 A4 A8 40 (nat_lit 1) (nat_lit 0))) fu
theorem zr_X_byStrength_8 {post : Int32 → St2 → Prop} {kp : Nat → Nat → Bool} {A4 : Nat} {A8 : Nat} {S0 : Int32} {S1 : Int32} {S2 : Int32} {A1 : Nat → Int32} {A2 : Nat → Int32} {A3 : Nat → Int32} {A5 : Nat → Int32} {A6 : Nat → Int32} {A7 : Nat → Int32} {A9 : Nat → Int32} {A10 : Nat → Int32} {A11 : Nat → Int32} {A12 : Nat → Int32} {A13 : Nat → Int32} {A14 : Nat → Int32} {A15 : Nat → Int32} {A16 : Nat → Int32} {A17 : Nat → Int32} (hp : ∀ r w10 : Nat, kp r w10 = true → post (nI r) (S0, S1, S2, A1, A2, A3, (zq_g A4), A5, A6, A7, (zq_g w10), A9, A10, A11, A12, A13, A14, A15, A16, A17)) (fu : Nat) : ∀ (x1 : Nat) (x2 : Nat) (e_x1 : Int32) (e_x2 : Int32), zb_X_byStrength_8 kp A4 A8 fu x1 x2 = true → e_x1 = nI x1 → e_x2 = nI x2 → wX_byStrength_8 post S0 S1 S2 A1 A2 A3 (zq_g A4) A5 A6 A7 (zq_g A8) A9 A10 A11 A12 A13 A14 A15 A16 A17 fu e_x1 e_x2 := by
  induction fu with
  | zero => intro x1 x2 e_x1 e_x2 h q_x1 q_x2; exact absurd h Bool.false_ne_true
  | succ n ih =>
    intro x1 x2 e_x1 e_x2 h q_x1 q_x2
    subst q_x1; subst q_x2; have h : (zq_if (zq_le (nat_lit 5) x2)
        (kp x1 A8)
        (zb_X_byStrength_18 kp (zb_X_byStrength_8 kp A4 A8 n) x1 x2 A4 A8 40 (nat_lit 1) (nat_lit 0))) = true := h
    exact zq_br h (zq_cle rfl rfl)
        (fun h => hp _ _ h)
        (fun h => Exists.intro 40 (zs_X_byStrength_18 h rfl rfl rfl rfl hp (fun y0 y1 h => ih y0 y1 _ _ h rfl rfl)))
theorem zs_X_byStrength_8 {post : Int32 → St2 → Prop} {kp : Nat → Nat → Bool} {A4 : Nat} {A8 : Nat} {x1 : Nat} {x2 : Nat} {S0 : Int32} {S1 : Int32} {S2 : Int32} {A1 : Nat → Int32} {A2 : Nat → Int32} {A3 : Nat → Int32} {A5 : Nat → Int32} {A6 : Nat → Int32} {A7 : Nat → Int32} {A9 : Nat → Int32} {A10 : Nat → Int32} {A11 : Nat → Int32} {A12 : Nat → Int32} {A13 : Nat → Int32} {A14 : Nat → Int32} {A15 : Nat → Int32} {A16 : Nat → Int32} {A17 : Nat → Int32} {e_x1 : Int32} {e_x2 : Int32} {fu : Nat} (h : zb_X_byStrength_8 kp A4 A8 fu x1 x2 = true) (q_x1 : e_x1 = nI x1) (q_x2 : e_x2 = nI x2) (hp : ∀ r w10 : Nat, kp r w10 = true → post (nI r) (S0, S1, S2, A1, A2, A3, (zq_g A4), A5, A6, A7, (zq_g w10), A9, A10, A11, A12, A13, A14, A15, A16, A17)) : wX_byStrength_8 post S0 S1 S2 A1 A2 A3 (zq_g A4) A5 A6 A7 (zq_g A8) A9 A10 A11 A12 A13 A14 A15 A16 A17 fu e_x1 e_x2 := by
  exact zr_X_byStrength_8 hp fu _ _ _ _ h q_x1 q_x2
noncomputable def zb_X_byStrength (kp : Nat → Nat → Bool) (A4 : Nat) (A8 : Nat) : Bool :=
        zb_X_findStrengths (fun am18_28 => zb_X_byStrength_8 kp A4 am18_28 40 (nat_lit 0) (nat_lit 0)) A4 A8
theorem zs_X_byStrength {post : Int32 → St2 → Prop} {kp : Nat → Nat → Bool} {A4 : Nat} {A8 : Nat} {S0 : Int32} {S1 : Int32} {S2 : Int32} {A1 : Nat → Int32} {A2 : Nat → Int32} {A3 : Nat → Int32} {A5 : Nat → Int32} {A6 : Nat → Int32} {A7 : Nat → Int32} {A9 : Nat → Int32} {A10 : Nat → Int32} {A11 : Nat → Int32} {A12 : Nat → Int32} {A13 : Nat → Int32} {A14 : Nat → Int32} {A15 : Nat → Int32} {A16 : Nat → Int32} {A17 : Nat → Int32} (h : zb_X_byStrength kp A4 A8 = true) (hp : ∀ r w10 : Nat, kp r w10 = true → post (nI r) (S0, S1, S2, A1, A2, A3, (zq_g A4), A5, A6, A7, (zq_g w10), A9, A10, A11, A12, A13, A14, A15, A16, A17)) : wpX_byStrength post (S0, S1, S2, A1, A2, A3, (zq_g A4), A5, A6, A7, (zq_g A8), A9, A10, A11, A12, A13, A14, A15, A16, A17) := by
  have h : (zb_X_findStrengths (fun am18_28 => zb_X_byStrength_8 kp A4 am18_28 40 (nat_lit 0) (nat_lit 0)) A4 A8) = true := h
  exact zs_X_findStrengths h (fun am18_28 h => Exists.intro 40 (zs_X_byStrength_8 h rfl rfl hp))
noncomputable def zb_X_pointsOf_5 (kp : Nat → Bool) (x1 : Nat) (x2 : Nat) (A3 : Nat) : Nat → Nat → Nat → Bool := fun fu => @Nat.rec (fun _ => Nat → Nat → Bool) (fun _ _ => false) (fun _ ih => fun x3 x4 =>
        zq_if (zq_le (nat_lit 5) x4)
        (kp x3)
        (zb_X_isIn (fun r_2 => zq_if (zq_eq r_2 (nat_lit 0))
        (zq_fc (zq_add x4 (nat_lit 1)) (fun x4_4 => ih x3 x4_4))
        (zq_if (zq_in (zq_add (zq_mul (nat_lit 5) x1) x4) (nat_lit 25))
        (zq_fc (zq_get A3 (zq_cl (zq_add (zq_mul (nat_lit 5) x1) x4))) (fun y1 => zb_X_onesIn (fun r_6 => zq_fc (zq_add x3 r_6) (fun x3_7 => zq_fc (zq_add x4 (nat_lit 1)) (fun x4_8 => ih x3_7 x4_8))) y1)) false)) x2 x4)) fu
theorem zr_X_pointsOf_5 {post : Int32 → Prop} {kp : Nat → Bool} {x1 : Nat} {x2 : Nat} {A3 : Nat} {S0 : Int32} {S1 : Int32} {S2 : Int32} {A1 : Nat → Int32} {A2 : Nat → Int32} {A4 : Nat → Int32} {A5 : Nat → Int32} {A6 : Nat → Int32} {A7 : Nat → Int32} {A8 : Nat → Int32} {A9 : Nat → Int32} {A10 : Nat → Int32} {A11 : Nat → Int32} {A12 : Nat → Int32} {A13 : Nat → Int32} {A14 : Nat → Int32} {A15 : Nat → Int32} {A16 : Nat → Int32} {A17 : Nat → Int32} (hp : ∀ r : Nat, kp r = true → post (nI r)) (fu : Nat) : ∀ (x3 : Nat) (x4 : Nat) (e_x3 : Int32) (e_x4 : Int32), zb_X_pointsOf_5 kp x1 x2 A3 fu x3 x4 = true → e_x3 = nI x3 → e_x4 = nI x4 → wX_pointsOf_5 post (nI x1) (nI x2) S0 S1 S2 A1 A2 (zq_g A3) A4 A5 A6 A7 A8 A9 A10 A11 A12 A13 A14 A15 A16 A17 fu e_x3 e_x4 := by
  induction fu with
  | zero => intro x3 x4 e_x3 e_x4 h q_x3 q_x4; exact absurd h Bool.false_ne_true
  | succ n ih =>
    intro x3 x4 e_x3 e_x4 h q_x3 q_x4
    subst q_x3; subst q_x4; have h : (zq_if (zq_le (nat_lit 5) x4)
        (kp x3)
        (zb_X_isIn (fun r_2 => zq_if (zq_eq r_2 (nat_lit 0))
        (zq_fc (zq_add x4 (nat_lit 1)) (fun x4_4 => (zb_X_pointsOf_5 kp x1 x2 A3 n) x3 x4_4))
        (zq_if (zq_in (zq_add (zq_mul (nat_lit 5) x1) x4) (nat_lit 25))
        (zq_fc (zq_get A3 (zq_cl (zq_add (zq_mul (nat_lit 5) x1) x4))) (fun y1 => zb_X_onesIn (fun r_6 => zq_fc (zq_add x3 r_6) (fun x3_7 => zq_fc (zq_add x4 (nat_lit 1)) (fun x4_8 => (zb_X_pointsOf_5 kp x1 x2 A3 n) x3_7 x4_8))) y1)) false)) x2 x4)) = true := h
    exact zq_br h (zq_cle rfl rfl)
        (fun h => hp _ h)
        (fun h => zs_X_isIn h rfl rfl (fun r_2 h => zq_br h (zq_ceq rfl rfl)
        (fun h => zq_ly h (zq_hadd rfl rfl) (fun x4_4 h => ih _ _ _ _ h rfl rfl))
        (fun h => zq_vi h (zq_hadd (zq_hmul rfl rfl) rfl) (by decide) (fun h => have h := zq_fe h; zs_X_onesIn h (zq_rd (zq_hadd (zq_hmul rfl rfl) rfl)) (fun r_6 h => zq_ly h (zq_hadd rfl rfl) (fun x3_7 h => zq_ly h (zq_hadd rfl rfl) (fun x4_8 h => ih _ _ _ _ h rfl rfl)))))))
theorem zs_X_pointsOf_5 {post : Int32 → Prop} {kp : Nat → Bool} {x1 : Nat} {x2 : Nat} {A3 : Nat} {x3 : Nat} {x4 : Nat} {S0 : Int32} {S1 : Int32} {S2 : Int32} {A1 : Nat → Int32} {A2 : Nat → Int32} {A4 : Nat → Int32} {A5 : Nat → Int32} {A6 : Nat → Int32} {A7 : Nat → Int32} {A8 : Nat → Int32} {A9 : Nat → Int32} {A10 : Nat → Int32} {A11 : Nat → Int32} {A12 : Nat → Int32} {A13 : Nat → Int32} {A14 : Nat → Int32} {A15 : Nat → Int32} {A16 : Nat → Int32} {A17 : Nat → Int32} {e_x1 : Int32} {e_x2 : Int32} {e_x3 : Int32} {e_x4 : Int32} {fu : Nat} (h : zb_X_pointsOf_5 kp x1 x2 A3 fu x3 x4 = true) (q_x1 : e_x1 = nI x1) (q_x2 : e_x2 = nI x2) (q_x3 : e_x3 = nI x3) (q_x4 : e_x4 = nI x4) (hp : ∀ r : Nat, kp r = true → post (nI r)) : wX_pointsOf_5 post e_x1 e_x2 S0 S1 S2 A1 A2 (zq_g A3) A4 A5 A6 A7 A8 A9 A10 A11 A12 A13 A14 A15 A16 A17 fu e_x3 e_x4 := by
  subst q_x1; subst q_x2; exact zr_X_pointsOf_5 hp fu _ _ _ _ h q_x3 q_x4
noncomputable def zb_X_pointsOf (kp : Nat → Bool) (p0 : Nat) (p1 : Nat) (A3 : Nat) : Bool :=
        zb_X_pointsOf_5 kp p0 p1 A3 40 (nat_lit 0) (nat_lit 0)
theorem zs_X_pointsOf {post : Int32 → Prop} {kp : Nat → Bool} {p0 : Nat} {p1 : Nat} {A3 : Nat} {S0 : Int32} {S1 : Int32} {S2 : Int32} {A1 : Nat → Int32} {A2 : Nat → Int32} {A4 : Nat → Int32} {A5 : Nat → Int32} {A6 : Nat → Int32} {A7 : Nat → Int32} {A8 : Nat → Int32} {A9 : Nat → Int32} {A10 : Nat → Int32} {A11 : Nat → Int32} {A12 : Nat → Int32} {A13 : Nat → Int32} {A14 : Nat → Int32} {A15 : Nat → Int32} {A16 : Nat → Int32} {A17 : Nat → Int32} {e_p0 : Int32} {e_p1 : Int32} (h : zb_X_pointsOf kp p0 p1 A3 = true) (q_p0 : e_p0 = nI p0) (q_p1 : e_p1 = nI p1) (hp : ∀ r : Nat, kp r = true → post (nI r)) : wpX_pointsOf post (S0, S1, S2, A1, A2, (zq_g A3), A4, A5, A6, A7, A8, A9, A10, A11, A12, A13, A14, A15, A16, A17) e_p0 e_p1 := by
  subst q_p0; subst q_p1; have h : (zb_X_pointsOf_5 kp p0 p1 A3 40 (nat_lit 0) (nat_lit 0)) = true := h
  exact Exists.intro 40 (zs_X_pointsOf_5 h rfl rfl rfl rfl hp)
noncomputable def zb_X_extremeCount_13 (kp : Nat → Bool) (x1 : Nat) (x2 : Nat) (x3 : Nat) (S0 : Nat) (A3 : Nat) : Nat → Nat → Nat → Bool := fun fu => @Nat.rec (fun _ => Nat → Nat → Bool) (fun _ _ => false) (fun _ ih => fun x4 x5 =>
        zq_if (zq_le (nat_lit 5) x5)
        (zb_X_onesIn (fun r_3 => kp r_3) x4)
        (zq_if (zq_eq x5 x2)
        (zq_fc (zq_add x5 (nat_lit 1)) (fun x5_5 => ih x4 x5_5))
        (zb_X_isIn (fun r_6 => zq_if (zq_eq r_6 (nat_lit 0))
        (zq_fc (zq_add x5 (nat_lit 1)) (fun x5_8 => ih x4 x5_8))
        (zq_if (zq_eq x3 (nat_lit 0))
        (zq_if (zq_in (zq_add (zq_mul (nat_lit 5) x5) x2) (nat_lit 25))
        (zq_fc (zq_and x4 (zq_get A3 (zq_cl (zq_add (zq_mul (nat_lit 5) x5) x2)))) (fun x4_11 => zq_fc (zq_add x5 (nat_lit 1)) (fun x5_12 => ih x4_11 x5_12))) false)
        (zq_if (zq_in (zq_add (zq_mul (nat_lit 5) x2) x5) (nat_lit 25))
        (zq_fc (zq_and x4 (zq_get A3 (zq_cl (zq_add (zq_mul (nat_lit 5) x2) x5)))) (fun x4_14 => zq_fc (zq_add x5 (nat_lit 1)) (fun x5_15 => ih x4_14 x5_15))) false))) x1 x5))) fu
theorem zr_X_extremeCount_13 {post : Int32 → Prop} {kp : Nat → Bool} {x1 : Nat} {x2 : Nat} {x3 : Nat} {S0 : Nat} {A3 : Nat} {S1 : Int32} {S2 : Int32} {A1 : Nat → Int32} {A2 : Nat → Int32} {A4 : Nat → Int32} {A5 : Nat → Int32} {A6 : Nat → Int32} {A7 : Nat → Int32} {A8 : Nat → Int32} {A9 : Nat → Int32} {A10 : Nat → Int32} {A11 : Nat → Int32} {A12 : Nat → Int32} {A13 : Nat → Int32} {A14 : Nat → Int32} {A15 : Nat → Int32} {A16 : Nat → Int32} {A17 : Nat → Int32} (hp : ∀ r : Nat, kp r = true → post (nI r)) (fu : Nat) : ∀ (x4 : Nat) (x5 : Nat) (e_x4 : Int32) (e_x5 : Int32), zb_X_extremeCount_13 kp x1 x2 x3 S0 A3 fu x4 x5 = true → e_x4 = nI x4 → e_x5 = nI x5 → wX_extremeCount_13 post (nI x1) (nI x2) (nI x3) (nI S0) S1 S2 A1 A2 (zq_g A3) A4 A5 A6 A7 A8 A9 A10 A11 A12 A13 A14 A15 A16 A17 fu e_x4 e_x5 := by
  induction fu with
  | zero => intro x4 x5 e_x4 e_x5 h q_x4 q_x5; exact absurd h Bool.false_ne_true
  | succ n ih =>
    intro x4 x5 e_x4 e_x5 h q_x4 q_x5
    subst q_x4; subst q_x5; have h : (zq_if (zq_le (nat_lit 5) x5)
        (zb_X_onesIn (fun r_3 => kp r_3) x4)
        (zq_if (zq_eq x5 x2)
        (zq_fc (zq_add x5 (nat_lit 1)) (fun x5_5 => (zb_X_extremeCount_13 kp x1 x2 x3 S0 A3 n) x4 x5_5))
        (zb_X_isIn (fun r_6 => zq_if (zq_eq r_6 (nat_lit 0))
        (zq_fc (zq_add x5 (nat_lit 1)) (fun x5_8 => (zb_X_extremeCount_13 kp x1 x2 x3 S0 A3 n) x4 x5_8))
        (zq_if (zq_eq x3 (nat_lit 0))
        (zq_if (zq_in (zq_add (zq_mul (nat_lit 5) x5) x2) (nat_lit 25))
        (zq_fc (zq_and x4 (zq_get A3 (zq_cl (zq_add (zq_mul (nat_lit 5) x5) x2)))) (fun x4_11 => zq_fc (zq_add x5 (nat_lit 1)) (fun x5_12 => (zb_X_extremeCount_13 kp x1 x2 x3 S0 A3 n) x4_11 x5_12))) false)
        (zq_if (zq_in (zq_add (zq_mul (nat_lit 5) x2) x5) (nat_lit 25))
        (zq_fc (zq_and x4 (zq_get A3 (zq_cl (zq_add (zq_mul (nat_lit 5) x2) x5)))) (fun x4_14 => zq_fc (zq_add x5 (nat_lit 1)) (fun x5_15 => (zb_X_extremeCount_13 kp x1 x2 x3 S0 A3 n) x4_14 x5_15))) false))) x1 x5))) = true := h
    exact zq_br h (zq_cle rfl rfl)
        (fun h => zs_X_onesIn h rfl (fun r_3 h => hp _ h))
        (fun h => zq_br h (zq_ceq rfl rfl)
        (fun h => zq_ly h (zq_hadd rfl rfl) (fun x5_5 h => ih _ _ _ _ h rfl rfl))
        (fun h => zs_X_isIn h rfl rfl (fun r_6 h => zq_br h (zq_ceq rfl rfl)
        (fun h => zq_ly h (zq_hadd rfl rfl) (fun x5_8 h => ih _ _ _ _ h rfl rfl))
        (fun h => zq_br h (zq_ceq rfl rfl)
        (fun h => zq_vi h (zq_hadd (zq_hmul rfl rfl) rfl) (by decide) (fun h => zq_ly h (zq_hand rfl (zq_rd (zq_hadd (zq_hmul rfl rfl) rfl))) (fun x4_11 h => zq_ly h (zq_hadd rfl rfl) (fun x5_12 h => ih _ _ _ _ h rfl rfl))))
        (fun h => zq_vi h (zq_hadd (zq_hmul rfl rfl) rfl) (by decide) (fun h => zq_ly h (zq_hand rfl (zq_rd (zq_hadd (zq_hmul rfl rfl) rfl))) (fun x4_14 h => zq_ly h (zq_hadd rfl rfl) (fun x5_15 h => ih _ _ _ _ h rfl rfl))))))))
theorem zs_X_extremeCount_13 {post : Int32 → Prop} {kp : Nat → Bool} {x1 : Nat} {x2 : Nat} {x3 : Nat} {S0 : Nat} {A3 : Nat} {x4 : Nat} {x5 : Nat} {S1 : Int32} {S2 : Int32} {A1 : Nat → Int32} {A2 : Nat → Int32} {A4 : Nat → Int32} {A5 : Nat → Int32} {A6 : Nat → Int32} {A7 : Nat → Int32} {A8 : Nat → Int32} {A9 : Nat → Int32} {A10 : Nat → Int32} {A11 : Nat → Int32} {A12 : Nat → Int32} {A13 : Nat → Int32} {A14 : Nat → Int32} {A15 : Nat → Int32} {A16 : Nat → Int32} {A17 : Nat → Int32} {e_x1 : Int32} {e_x2 : Int32} {e_x3 : Int32} {e_x4 : Int32} {e_x5 : Int32} {fu : Nat} (h : zb_X_extremeCount_13 kp x1 x2 x3 S0 A3 fu x4 x5 = true) (q_x1 : e_x1 = nI x1) (q_x2 : e_x2 = nI x2) (q_x3 : e_x3 = nI x3) (q_x4 : e_x4 = nI x4) (q_x5 : e_x5 = nI x5) (hp : ∀ r : Nat, kp r = true → post (nI r)) : wX_extremeCount_13 post e_x1 e_x2 e_x3 (nI S0) S1 S2 A1 A2 (zq_g A3) A4 A5 A6 A7 A8 A9 A10 A11 A12 A13 A14 A15 A16 A17 fu e_x4 e_x5 := by
  subst q_x1; subst q_x2; subst q_x3; exact zr_X_extremeCount_13 hp fu _ _ _ _ h q_x4 q_x5
noncomputable def zb_X_extremeCount (kp : Nat → Bool) (p0 : Nat) (p1 : Nat) (p2 : Nat) (S0 : Nat) (A3 : Nat) : Bool :=
        zq_fc (zq_sub (zq_shl (nat_lit 1) S0) (nat_lit 1)) (fun x4_1 => zb_X_extremeCount_13 kp p0 p1 p2 S0 A3 40 x4_1 (nat_lit 0))
theorem zs_X_extremeCount {post : Int32 → Prop} {kp : Nat → Bool} {p0 : Nat} {p1 : Nat} {p2 : Nat} {S0 : Nat} {A3 : Nat} {S1 : Int32} {S2 : Int32} {A1 : Nat → Int32} {A2 : Nat → Int32} {A4 : Nat → Int32} {A5 : Nat → Int32} {A6 : Nat → Int32} {A7 : Nat → Int32} {A8 : Nat → Int32} {A9 : Nat → Int32} {A10 : Nat → Int32} {A11 : Nat → Int32} {A12 : Nat → Int32} {A13 : Nat → Int32} {A14 : Nat → Int32} {A15 : Nat → Int32} {A16 : Nat → Int32} {A17 : Nat → Int32} {e_p0 : Int32} {e_p1 : Int32} {e_p2 : Int32} (h : zb_X_extremeCount kp p0 p1 p2 S0 A3 = true) (q_p0 : e_p0 = nI p0) (q_p1 : e_p1 = nI p1) (q_p2 : e_p2 = nI p2) (hp : ∀ r : Nat, kp r = true → post (nI r)) : wpX_extremeCount post ((nI S0), S1, S2, A1, A2, (zq_g A3), A4, A5, A6, A7, A8, A9, A10, A11, A12, A13, A14, A15, A16, A17) e_p0 e_p1 e_p2 := by
  subst q_p0; subst q_p1; subst q_p2; have h : (zq_fc (zq_sub (zq_shl (nat_lit 1) S0) (nat_lit 1)) (fun x4_1 => zb_X_extremeCount_13 kp p0 p1 p2 S0 A3 40 x4_1 (nat_lit 0))) = true := h
  exact zq_ly h (zq_hsub (zq_hshl rfl rfl) rfl) (fun x4_1 h => Exists.intro 40 (zs_X_extremeCount_13 h rfl rfl rfl rfl rfl hp))
noncomputable def zb_X_eliminate_103 (kp : Nat → Nat → Bool) (x2 : Nat) (x3 : Nat) (S0 : Nat) (A3 : Nat) : Nat → Nat → Nat → Nat → Bool := fun fu => @Nat.rec (fun _ => Nat → Nat → Nat → Bool) (fun _ _ _ => false) (fun _ ih => fun x4 A6 A7 =>
        zq_if (zq_le (nat_lit 5) x4)
        (kp A6 A7)
        (zb_X_isIn (fun r_3 => zq_if (zq_eq r_3 (nat_lit 0))
        (zq_fc (zq_add x4 (nat_lit 1)) (fun x4_5 => ih x4_5 A6 A7))
        (zq_if (zq_in x4 (nat_lit 5))
        (zq_if (zq_eq (zq_get A6 (zq_cl x4)) x3)
        (zq_if (zq_in (zq_and x2 (zq_xor (zq_shl (nat_lit 1) x4) (nat_lit 4294967295))) (nat_lit 32))
        (zq_fc (zq_set A7 (zq_cl (zq_and x2 (zq_xor (zq_shl (nat_lit 1) x4) (nat_lit 4294967295)))) (nat_lit 1)) (fun a7_10 => zq_fc (zq_add x4 (nat_lit 1)) (fun x4_11 => ih x4_11 A6 a7_10))) false)
        (zq_fc (zq_add x4 (nat_lit 1)) (fun x4_8 => ih x4_8 A6 A7))) false)) x2 x4)) fu
theorem zr_X_eliminate_103 {post : St2 → Prop} {kp : Nat → Nat → Bool} {x2 : Nat} {x3 : Nat} {S0 : Nat} {A3 : Nat} {S1 : Int32} {S2 : Int32} {A1 : Nat → Int32} {A2 : Nat → Int32} {A4 : Nat → Int32} {A5 : Nat → Int32} {A8 : Nat → Int32} {A9 : Nat → Int32} {A10 : Nat → Int32} {A11 : Nat → Int32} {A12 : Nat → Int32} {A13 : Nat → Int32} {A14 : Nat → Int32} {A15 : Nat → Int32} {A16 : Nat → Int32} {A17 : Nat → Int32} (hp : ∀ w8 w9 : Nat, kp w8 w9 = true → post ((nI S0), S1, S2, A1, A2, (zq_g A3), A4, A5, (zq_g w8), (zq_g w9), A8, A9, A10, A11, A12, A13, A14, A15, A16, A17)) (fu : Nat) : ∀ (x4 : Nat) (A6 : Nat) (A7 : Nat) (e_x4 : Int32), zb_X_eliminate_103 kp x2 x3 S0 A3 fu x4 A6 A7 = true → e_x4 = nI x4 → wX_eliminate_103 post (nI x2) (nI x3) (nI S0) S1 S2 fu e_x4 A1 A2 (zq_g A3) A4 A5 (zq_g A6) (zq_g A7) A8 A9 A10 A11 A12 A13 A14 A15 A16 A17 := by
  induction fu with
  | zero => intro x4 A6 A7 e_x4 h q_x4; exact absurd h Bool.false_ne_true
  | succ n ih =>
    intro x4 A6 A7 e_x4 h q_x4
    subst q_x4; have h : (zq_if (zq_le (nat_lit 5) x4)
        (kp A6 A7)
        (zb_X_isIn (fun r_3 => zq_if (zq_eq r_3 (nat_lit 0))
        (zq_fc (zq_add x4 (nat_lit 1)) (fun x4_5 => (zb_X_eliminate_103 kp x2 x3 S0 A3 n) x4_5 A6 A7))
        (zq_if (zq_in x4 (nat_lit 5))
        (zq_if (zq_eq (zq_get A6 (zq_cl x4)) x3)
        (zq_if (zq_in (zq_and x2 (zq_xor (zq_shl (nat_lit 1) x4) (nat_lit 4294967295))) (nat_lit 32))
        (zq_fc (zq_set A7 (zq_cl (zq_and x2 (zq_xor (zq_shl (nat_lit 1) x4) (nat_lit 4294967295)))) (nat_lit 1)) (fun a7_10 => zq_fc (zq_add x4 (nat_lit 1)) (fun x4_11 => (zb_X_eliminate_103 kp x2 x3 S0 A3 n) x4_11 A6 a7_10))) false)
        (zq_fc (zq_add x4 (nat_lit 1)) (fun x4_8 => (zb_X_eliminate_103 kp x2 x3 S0 A3 n) x4_8 A6 A7))) false)) x2 x4)) = true := h
    exact zq_br h (zq_cle rfl rfl)
        (fun h => hp _ _ h)
        (fun h => zs_X_isIn h rfl rfl (fun r_3 h => zq_br h (zq_ceq rfl rfl)
        (fun h => zq_ly h (zq_hadd rfl rfl) (fun x4_5 h => ih _ _ _ _ h rfl))
        (fun h => zq_vi h rfl (by decide) (fun h => zq_br h (zq_ceq (zq_rd rfl) rfl)
        (fun h => zq_vi h (zq_hand rfl (zq_hxor (zq_hshl rfl rfl) zq_m1)) (by decide) (fun h => zq_up h (zq_hand rfl (zq_hxor (zq_hshl rfl rfl) zq_m1)) rfl (fun a7_10 h => zq_ly h (zq_hadd rfl rfl) (fun x4_11 h => ih _ _ _ _ h rfl))))
        (fun h => zq_ly h (zq_hadd rfl rfl) (fun x4_8 h => ih _ _ _ _ h rfl))))))
theorem zs_X_eliminate_103 {post : St2 → Prop} {kp : Nat → Nat → Bool} {x2 : Nat} {x3 : Nat} {S0 : Nat} {A3 : Nat} {x4 : Nat} {A6 : Nat} {A7 : Nat} {S1 : Int32} {S2 : Int32} {A1 : Nat → Int32} {A2 : Nat → Int32} {A4 : Nat → Int32} {A5 : Nat → Int32} {A8 : Nat → Int32} {A9 : Nat → Int32} {A10 : Nat → Int32} {A11 : Nat → Int32} {A12 : Nat → Int32} {A13 : Nat → Int32} {A14 : Nat → Int32} {A15 : Nat → Int32} {A16 : Nat → Int32} {A17 : Nat → Int32} {e_x2 : Int32} {e_x3 : Int32} {e_x4 : Int32} {fu : Nat} (h : zb_X_eliminate_103 kp x2 x3 S0 A3 fu x4 A6 A7 = true) (q_x2 : e_x2 = nI x2) (q_x3 : e_x3 = nI x3) (q_x4 : e_x4 = nI x4) (hp : ∀ w8 w9 : Nat, kp w8 w9 = true → post ((nI S0), S1, S2, A1, A2, (zq_g A3), A4, A5, (zq_g w8), (zq_g w9), A8, A9, A10, A11, A12, A13, A14, A15, A16, A17)) : wX_eliminate_103 post e_x2 e_x3 (nI S0) S1 S2 fu e_x4 A1 A2 (zq_g A3) A4 A5 (zq_g A6) (zq_g A7) A8 A9 A10 A11 A12 A13 A14 A15 A16 A17 := by
  subst q_x2; subst q_x3; exact zr_X_eliminate_103 hp fu _ _ _ _ h q_x4
noncomputable def zb_X_eliminate_74 (kp : Nat → Nat → Bool) (kJ7 : Nat → Nat → Nat → Nat → Bool) (x1 : Nat) (x2 : Nat) (x3 : Nat) (x4 : Nat) (z0 : Nat) (z1 : Nat) (S0 : Nat) (A3 : Nat) (A6 : Nat) (A7 : Nat) : Bool :=
        zq_if (zq_in z1 (nat_lit 5))
        (zq_fc (zq_set A6 (zq_cl z1) z0) (fun a6_18 => zq_if (zq_in x4 (nat_lit 5))
        (zq_if (zq_le x3 (zq_get a6_18 (zq_cl x4)))
        (zq_fc (zq_add x4 (nat_lit 1)) (fun x4_21 => kJ7 x3 x4_21 a6_18 A7))
        (zq_if (zq_in x4 (nat_lit 5))
        (zq_fc (zq_get a6_18 (zq_cl x4)) (fun x3_23 => zq_fc (zq_add x4 (nat_lit 1)) (fun x4_24 => kJ7 x3_23 x4_24 a6_18 A7))) false)) false)) false
theorem zs_X_eliminate_74 {post : St2 → Prop} {J7 : Int32 → Int32 → (Nat → Int32) → (Nat → Int32) → (Nat → Int32) → (Nat → Int32) → (Nat → Int32) → (Nat → Int32) → (Nat → Int32) → (Nat → Int32) → (Nat → Int32) → (Nat → Int32) → (Nat → Int32) → (Nat → Int32) → (Nat → Int32) → (Nat → Int32) → (Nat → Int32) → (Nat → Int32) → (Nat → Int32) → Prop} {kp : Nat → Nat → Bool} {kJ7 : Nat → Nat → Nat → Nat → Bool} {x1 : Nat} {x2 : Nat} {x3 : Nat} {x4 : Nat} {z0 : Nat} {z1 : Nat} {S0 : Nat} {A3 : Nat} {A6 : Nat} {A7 : Nat} {S1 : Int32} {S2 : Int32} {A1 : Nat → Int32} {A2 : Nat → Int32} {A4 : Nat → Int32} {A5 : Nat → Int32} {A8 : Nat → Int32} {A9 : Nat → Int32} {A10 : Nat → Int32} {A11 : Nat → Int32} {A12 : Nat → Int32} {A13 : Nat → Int32} {A14 : Nat → Int32} {A15 : Nat → Int32} {A16 : Nat → Int32} {A17 : Nat → Int32} {e_x1 : Int32} {e_x2 : Int32} {e_x3 : Int32} {e_x4 : Int32} {e_z0 : Int32} {e_z1 : Int32} (h : zb_X_eliminate_74 kp kJ7 x1 x2 x3 x4 z0 z1 S0 A3 A6 A7 = true) (q_x1 : e_x1 = nI x1) (q_x2 : e_x2 = nI x2) (q_x3 : e_x3 = nI x3) (q_x4 : e_x4 = nI x4) (q_z0 : e_z0 = nI z0) (q_z1 : e_z1 = nI z1) (hp : ∀ w8 w9 : Nat, kp w8 w9 = true → post ((nI S0), S1, S2, A1, A2, (zq_g A3), A4, A5, (zq_g w8), (zq_g w9), A8, A9, A10, A11, A12, A13, A14, A15, A16, A17)) (hJ7 : ∀ y_x3 y_x4 v8 v9 : Nat, kJ7 y_x3 y_x4 v8 v9 = true → J7 (nI y_x3) (nI y_x4) A1 A2 (zq_g A3) A4 A5 (zq_g v8) (zq_g v9) A8 A9 A10 A11 A12 A13 A14 A15 A16 A17) : wX_eliminate_74 post J7 e_x1 e_x2 e_x3 e_x4 e_z0 e_z1 (nI S0) S1 S2 A1 A2 (zq_g A3) A4 A5 (zq_g A6) (zq_g A7) A8 A9 A10 A11 A12 A13 A14 A15 A16 A17 := by
  subst q_x1; subst q_x2; subst q_x3; subst q_x4; subst q_z0; subst q_z1; have h : (zq_if (zq_in z1 (nat_lit 5))
        (zq_fc (zq_set A6 (zq_cl z1) z0) (fun a6_18 => zq_if (zq_in x4 (nat_lit 5))
        (zq_if (zq_le x3 (zq_get a6_18 (zq_cl x4)))
        (zq_fc (zq_add x4 (nat_lit 1)) (fun x4_21 => kJ7 x3 x4_21 a6_18 A7))
        (zq_if (zq_in x4 (nat_lit 5))
        (zq_fc (zq_get a6_18 (zq_cl x4)) (fun x3_23 => zq_fc (zq_add x4 (nat_lit 1)) (fun x4_24 => kJ7 x3_23 x4_24 a6_18 A7))) false)) false)) false) = true := h
  exact zq_vi h rfl (by decide) (fun h => zq_up h rfl rfl (fun a6_18 h => zq_vi h rfl (by decide) (fun h => zq_br h (zq_cle rfl (zq_rd rfl))
        (fun h => zq_ly h (zq_hadd rfl rfl) (fun x4_21 h => hJ7 _ _ _ _ h))
        (fun h => zq_vi h rfl (by decide) (fun h => zq_ly h (zq_rd rfl) (fun x3_23 h => zq_ly h (zq_hadd rfl rfl) (fun x4_24 h => hJ7 _ _ _ _ h)))))))
noncomputable def zb_X_eliminate_7 (kp : Nat → Nat → Bool) (x1 : Nat) (x2 : Nat) (S0 : Nat) (A3 : Nat) : Nat → Nat → Nat → Nat → Nat → Bool := fun fu => @Nat.rec (fun _ => Nat → Nat → Nat → Nat → Bool) (fun _ _ _ _ => false) (fun _ ih => fun x3 x4 A6 A7 =>
        zq_if (zq_le (nat_lit 5) x4)
        (zb_X_eliminate_103 kp x2 x3 S0 A3 40 (nat_lit 0) A6 A7)
        (zb_X_isIn (fun r_12 => zq_if (zq_eq r_12 (nat_lit 0))
        (zq_fc (zq_add x4 (nat_lit 1)) (fun x4_27 => ih x3 x4_27 A6 A7))
        (zq_if (zq_eq x1 (nat_lit 6))
        (zb_X_extremeCount (fun r_26 => zb_X_eliminate_74 kp ih x1 x2 x3 x4 r_26 x4 S0 A3 A6 A7) x2 x4 (nat_lit 1) S0 A3)
        (zq_if (zq_eq x1 (nat_lit 7))
        (zb_X_extremeCount (fun r_25 => zq_fc (zq_neg r_25) (fun y1 => zb_X_eliminate_74 kp ih x1 x2 x3 x4 y1 x4 S0 A3 A6 A7)) x2 x4 (nat_lit 0) S0 A3)
        (zb_X_pointsOf (fun r_16 => zb_X_eliminate_74 kp ih x1 x2 x3 x4 r_16 x4 S0 A3 A6 A7) x4 x2 A3)))) x2 x4)) fu
theorem zr_X_eliminate_7 {post : St2 → Prop} {kp : Nat → Nat → Bool} {x1 : Nat} {x2 : Nat} {S0 : Nat} {A3 : Nat} {S1 : Int32} {S2 : Int32} {A1 : Nat → Int32} {A2 : Nat → Int32} {A4 : Nat → Int32} {A5 : Nat → Int32} {A8 : Nat → Int32} {A9 : Nat → Int32} {A10 : Nat → Int32} {A11 : Nat → Int32} {A12 : Nat → Int32} {A13 : Nat → Int32} {A14 : Nat → Int32} {A15 : Nat → Int32} {A16 : Nat → Int32} {A17 : Nat → Int32} (hp : ∀ w8 w9 : Nat, kp w8 w9 = true → post ((nI S0), S1, S2, A1, A2, (zq_g A3), A4, A5, (zq_g w8), (zq_g w9), A8, A9, A10, A11, A12, A13, A14, A15, A16, A17)) (fu : Nat) : ∀ (x3 : Nat) (x4 : Nat) (A6 : Nat) (A7 : Nat) (e_x3 : Int32) (e_x4 : Int32), zb_X_eliminate_7 kp x1 x2 S0 A3 fu x3 x4 A6 A7 = true → e_x3 = nI x3 → e_x4 = nI x4 → wX_eliminate_7 post (nI x1) (nI x2) (nI S0) S1 S2 fu e_x3 e_x4 A1 A2 (zq_g A3) A4 A5 (zq_g A6) (zq_g A7) A8 A9 A10 A11 A12 A13 A14 A15 A16 A17 := by
  induction fu with
  | zero => intro x3 x4 A6 A7 e_x3 e_x4 h q_x3 q_x4; exact absurd h Bool.false_ne_true
  | succ n ih =>
    intro x3 x4 A6 A7 e_x3 e_x4 h q_x3 q_x4
    subst q_x3; subst q_x4; have h : (zq_if (zq_le (nat_lit 5) x4)
        (zb_X_eliminate_103 kp x2 x3 S0 A3 40 (nat_lit 0) A6 A7)
        (zb_X_isIn (fun r_12 => zq_if (zq_eq r_12 (nat_lit 0))
        (zq_fc (zq_add x4 (nat_lit 1)) (fun x4_27 => (zb_X_eliminate_7 kp x1 x2 S0 A3 n) x3 x4_27 A6 A7))
        (zq_if (zq_eq x1 (nat_lit 6))
        (zb_X_extremeCount (fun r_26 => zb_X_eliminate_74 kp (zb_X_eliminate_7 kp x1 x2 S0 A3 n) x1 x2 x3 x4 r_26 x4 S0 A3 A6 A7) x2 x4 (nat_lit 1) S0 A3)
        (zq_if (zq_eq x1 (nat_lit 7))
        (zb_X_extremeCount (fun r_25 => zq_fc (zq_neg r_25) (fun y1 => zb_X_eliminate_74 kp (zb_X_eliminate_7 kp x1 x2 S0 A3 n) x1 x2 x3 x4 y1 x4 S0 A3 A6 A7)) x2 x4 (nat_lit 0) S0 A3)
        (zb_X_pointsOf (fun r_16 => zb_X_eliminate_74 kp (zb_X_eliminate_7 kp x1 x2 S0 A3 n) x1 x2 x3 x4 r_16 x4 S0 A3 A6 A7) x4 x2 A3)))) x2 x4)) = true := h
    exact zq_br h (zq_cle rfl rfl)
        (fun h => Exists.intro 40 (zs_X_eliminate_103 h rfl rfl rfl hp))
        (fun h => zs_X_isIn h rfl rfl (fun r_12 h => zq_br h (zq_ceq rfl rfl)
        (fun h => zq_ly h (zq_hadd rfl rfl) (fun x4_27 h => ih _ _ _ _ _ _ h rfl rfl))
        (fun h => zq_br h (zq_ceq rfl rfl)
        (fun h => zs_X_extremeCount h rfl rfl rfl (fun r_26 h => zs_X_eliminate_74 h rfl rfl rfl rfl rfl rfl hp (fun y0 y1 y2 y3 h => ih y0 y1 y2 y3 _ _ h rfl rfl)))
        (fun h => zq_br h (zq_ceq rfl rfl)
        (fun h => zs_X_extremeCount h rfl rfl rfl (fun r_25 h => have h := zq_fe h; zs_X_eliminate_74 h rfl rfl rfl rfl (zq_hneg rfl) rfl hp (fun y0 y1 y2 y3 h => ih y0 y1 y2 y3 _ _ h rfl rfl)))
        (fun h => zs_X_pointsOf h rfl rfl (fun r_16 h => zs_X_eliminate_74 h rfl rfl rfl rfl rfl rfl hp (fun y0 y1 y2 y3 h => ih y0 y1 y2 y3 _ _ h rfl rfl)))))))
theorem zs_X_eliminate_7 {post : St2 → Prop} {kp : Nat → Nat → Bool} {x1 : Nat} {x2 : Nat} {S0 : Nat} {A3 : Nat} {x3 : Nat} {x4 : Nat} {A6 : Nat} {A7 : Nat} {S1 : Int32} {S2 : Int32} {A1 : Nat → Int32} {A2 : Nat → Int32} {A4 : Nat → Int32} {A5 : Nat → Int32} {A8 : Nat → Int32} {A9 : Nat → Int32} {A10 : Nat → Int32} {A11 : Nat → Int32} {A12 : Nat → Int32} {A13 : Nat → Int32} {A14 : Nat → Int32} {A15 : Nat → Int32} {A16 : Nat → Int32} {A17 : Nat → Int32} {e_x1 : Int32} {e_x2 : Int32} {e_x3 : Int32} {e_x4 : Int32} {fu : Nat} (h : zb_X_eliminate_7 kp x1 x2 S0 A3 fu x3 x4 A6 A7 = true) (q_x1 : e_x1 = nI x1) (q_x2 : e_x2 = nI x2) (q_x3 : e_x3 = nI x3) (q_x4 : e_x4 = nI x4) (hp : ∀ w8 w9 : Nat, kp w8 w9 = true → post ((nI S0), S1, S2, A1, A2, (zq_g A3), A4, A5, (zq_g w8), (zq_g w9), A8, A9, A10, A11, A12, A13, A14, A15, A16, A17)) : wX_eliminate_7 post e_x1 e_x2 (nI S0) S1 S2 fu e_x3 e_x4 A1 A2 (zq_g A3) A4 A5 (zq_g A6) (zq_g A7) A8 A9 A10 A11 A12 A13 A14 A15 A16 A17 := by
  subst q_x1; subst q_x2; exact zr_X_eliminate_7 hp fu _ _ _ _ _ _ h q_x3 q_x4
noncomputable def zb_X_eliminate (kp : Nat → Nat → Bool) (p0 : Nat) (p1 : Nat) (S0 : Nat) (A3 : Nat) (A6 : Nat) (A7 : Nat) : Bool :=
        zb_X_eliminate_7 kp p0 p1 S0 A3 40 (nat_lit 1000) (nat_lit 0) A6 A7
theorem zs_X_eliminate {post : St2 → Prop} {kp : Nat → Nat → Bool} {p0 : Nat} {p1 : Nat} {S0 : Nat} {A3 : Nat} {A6 : Nat} {A7 : Nat} {S1 : Int32} {S2 : Int32} {A1 : Nat → Int32} {A2 : Nat → Int32} {A4 : Nat → Int32} {A5 : Nat → Int32} {A8 : Nat → Int32} {A9 : Nat → Int32} {A10 : Nat → Int32} {A11 : Nat → Int32} {A12 : Nat → Int32} {A13 : Nat → Int32} {A14 : Nat → Int32} {A15 : Nat → Int32} {A16 : Nat → Int32} {A17 : Nat → Int32} {e_p0 : Int32} {e_p1 : Int32} (h : zb_X_eliminate kp p0 p1 S0 A3 A6 A7 = true) (q_p0 : e_p0 = nI p0) (q_p1 : e_p1 = nI p1) (hp : ∀ w8 w9 : Nat, kp w8 w9 = true → post ((nI S0), S1, S2, A1, A2, (zq_g A3), A4, A5, (zq_g w8), (zq_g w9), A8, A9, A10, A11, A12, A13, A14, A15, A16, A17)) : wpX_eliminate post ((nI S0), S1, S2, A1, A2, (zq_g A3), A4, A5, (zq_g A6), (zq_g A7), A8, A9, A10, A11, A12, A13, A14, A15, A16, A17) e_p0 e_p1 := by
  subst q_p0; subst q_p1; have h : (zb_X_eliminate_7 kp p0 p1 S0 A3 40 (nat_lit 1000) (nat_lit 0) A6 A7) = true := h
  exact Exists.intro 40 (zs_X_eliminate_7 h rfl rfl rfl rfl hp)
noncomputable def zb_X_byElimination_34 (kp : Nat → Nat → Nat → Bool) (x1 : Nat) (S0 : Nat) (A3 : Nat) : Nat → Nat → Nat → Nat → Nat → Bool := fun fu => @Nat.rec (fun _ => Nat → Nat → Nat → Nat → Bool) (fun _ _ _ _ => false) (fun _ ih => fun x2 x3 A6 A7 =>
        zq_if (zq_le x3 (nat_lit 0))
        (kp x2 A6 A7)
        (zq_if (zq_in x3 (nat_lit 32))
        (zq_if (zq_eq (zq_get A7 (zq_cl x3)) (nat_lit 0))
        (zq_fc (zq_add x3 (nat_lit 4294967295)) (fun x3_66 => ih x2 x3_66 A6 A7))
        (zq_if (zq_eq (zq_and x3 (zq_sub x3 (nat_lit 1))) (nat_lit 0))
        (zq_fc (zq_or x2 x3) (fun x2_64 => zq_fc (zq_add x3 (nat_lit 4294967295)) (fun x3_65 => ih x2_64 x3_65 A6 A7)))
        (zb_X_eliminate (fun am686_29 am687_32 => zq_fc (zq_add x3 (nat_lit 4294967295)) (fun x3_63 => ih x2 x3_63 am686_29 am687_32)) x1 x3 S0 A3 A6 A7))) false)) fu
theorem zr_X_byElimination_34 {post : Int32 → St2 → Prop} {kp : Nat → Nat → Nat → Bool} {x1 : Nat} {S0 : Nat} {A3 : Nat} {S1 : Int32} {S2 : Int32} {A1 : Nat → Int32} {A2 : Nat → Int32} {A4 : Nat → Int32} {A5 : Nat → Int32} {A8 : Nat → Int32} {A9 : Nat → Int32} {A10 : Nat → Int32} {A11 : Nat → Int32} {A12 : Nat → Int32} {A13 : Nat → Int32} {A14 : Nat → Int32} {A15 : Nat → Int32} {A16 : Nat → Int32} {A17 : Nat → Int32} (hp : ∀ r w8 w9 : Nat, kp r w8 w9 = true → post (nI r) ((nI S0), S1, S2, A1, A2, (zq_g A3), A4, A5, (zq_g w8), (zq_g w9), A8, A9, A10, A11, A12, A13, A14, A15, A16, A17)) (fu : Nat) : ∀ (x2 : Nat) (x3 : Nat) (A6 : Nat) (A7 : Nat) (e_x2 : Int32) (e_x3 : Int32), zb_X_byElimination_34 kp x1 S0 A3 fu x2 x3 A6 A7 = true → e_x2 = nI x2 → e_x3 = nI x3 → wX_byElimination_34 post (nI x1) fu e_x2 e_x3 (nI S0) S1 S2 A1 A2 (zq_g A3) A4 A5 (zq_g A6) (zq_g A7) A8 A9 A10 A11 A12 A13 A14 A15 A16 A17 := by
  induction fu with
  | zero => intro x2 x3 A6 A7 e_x2 e_x3 h q_x2 q_x3; exact absurd h Bool.false_ne_true
  | succ n ih =>
    intro x2 x3 A6 A7 e_x2 e_x3 h q_x2 q_x3
    subst q_x2; subst q_x3; have h : (zq_if (zq_le x3 (nat_lit 0))
        (kp x2 A6 A7)
        (zq_if (zq_in x3 (nat_lit 32))
        (zq_if (zq_eq (zq_get A7 (zq_cl x3)) (nat_lit 0))
        (zq_fc (zq_add x3 (nat_lit 4294967295)) (fun x3_66 => (zb_X_byElimination_34 kp x1 S0 A3 n) x2 x3_66 A6 A7))
        (zq_if (zq_eq (zq_and x3 (zq_sub x3 (nat_lit 1))) (nat_lit 0))
        (zq_fc (zq_or x2 x3) (fun x2_64 => zq_fc (zq_add x3 (nat_lit 4294967295)) (fun x3_65 => (zb_X_byElimination_34 kp x1 S0 A3 n) x2_64 x3_65 A6 A7)))
        (zb_X_eliminate (fun am686_29 am687_32 => zq_fc (zq_add x3 (nat_lit 4294967295)) (fun x3_63 => (zb_X_byElimination_34 kp x1 S0 A3 n) x2 x3_63 am686_29 am687_32)) x1 x3 S0 A3 A6 A7))) false)) = true := h
    exact zq_br h (zq_cle rfl rfl)
        (fun h => hp _ _ _ h)
        (fun h => zq_vi h rfl (by decide) (fun h => zq_br h (zq_ceq (zq_rd rfl) rfl)
        (fun h => zq_ly h (zq_hadd rfl zq_m1) (fun x3_66 h => ih _ _ _ _ _ _ h rfl rfl))
        (fun h => zq_br h (zq_ceq (zq_hand rfl (zq_hsub rfl rfl)) rfl)
        (fun h => zq_ly h (zq_hor rfl rfl) (fun x2_64 h => zq_ly h (zq_hadd rfl zq_m1) (fun x3_65 h => ih _ _ _ _ _ _ h rfl rfl)))
        (fun h => zs_X_eliminate h rfl rfl (fun am686_29 am687_32 h => zq_ly h (zq_hadd rfl zq_m1) (fun x3_63 h => ih _ _ _ _ _ _ h rfl rfl))))))
theorem zs_X_byElimination_34 {post : Int32 → St2 → Prop} {kp : Nat → Nat → Nat → Bool} {x1 : Nat} {S0 : Nat} {A3 : Nat} {x2 : Nat} {x3 : Nat} {A6 : Nat} {A7 : Nat} {S1 : Int32} {S2 : Int32} {A1 : Nat → Int32} {A2 : Nat → Int32} {A4 : Nat → Int32} {A5 : Nat → Int32} {A8 : Nat → Int32} {A9 : Nat → Int32} {A10 : Nat → Int32} {A11 : Nat → Int32} {A12 : Nat → Int32} {A13 : Nat → Int32} {A14 : Nat → Int32} {A15 : Nat → Int32} {A16 : Nat → Int32} {A17 : Nat → Int32} {e_x1 : Int32} {e_x2 : Int32} {e_x3 : Int32} {fu : Nat} (h : zb_X_byElimination_34 kp x1 S0 A3 fu x2 x3 A6 A7 = true) (q_x1 : e_x1 = nI x1) (q_x2 : e_x2 = nI x2) (q_x3 : e_x3 = nI x3) (hp : ∀ r w8 w9 : Nat, kp r w8 w9 = true → post (nI r) ((nI S0), S1, S2, A1, A2, (zq_g A3), A4, A5, (zq_g w8), (zq_g w9), A8, A9, A10, A11, A12, A13, A14, A15, A16, A17)) : wX_byElimination_34 post e_x1 fu e_x2 e_x3 (nI S0) S1 S2 A1 A2 (zq_g A3) A4 A5 (zq_g A6) (zq_g A7) A8 A9 A10 A11 A12 A13 A14 A15 A16 A17 := by
  subst q_x1; exact zr_X_byElimination_34 hp fu _ _ _ _ _ _ h q_x2 q_x3
noncomputable def zb_X_byElimination_2 (kp : Nat → Nat → Nat → Bool) (x1 : Nat) (S0 : Nat) (A3 : Nat) : Nat → Nat → Nat → Nat → Bool := fun fu => @Nat.rec (fun _ => Nat → Nat → Nat → Bool) (fun _ _ _ => false) (fun _ ih => fun x2 A6 A7 =>
        zq_if (zq_le (nat_lit 31) x2)
        (zq_fc (zq_set A7 (nat_lit 31) (nat_lit 1)) (fun a7_3 => zb_X_byElimination_34 kp x1 S0 A3 40 (nat_lit 0) (nat_lit 31) A6 a7_3))
        (zq_if (zq_in x2 (nat_lit 32))
        (zq_fc (zq_set A7 (zq_cl x2) (nat_lit 0)) (fun a7_68 => zq_fc (zq_add x2 (nat_lit 1)) (fun x2_69 => ih x2_69 A6 a7_68))) false)) fu
theorem zr_X_byElimination_2 {post : Int32 → St2 → Prop} {kp : Nat → Nat → Nat → Bool} {x1 : Nat} {S0 : Nat} {A3 : Nat} {S1 : Int32} {S2 : Int32} {A1 : Nat → Int32} {A2 : Nat → Int32} {A4 : Nat → Int32} {A5 : Nat → Int32} {A8 : Nat → Int32} {A9 : Nat → Int32} {A10 : Nat → Int32} {A11 : Nat → Int32} {A12 : Nat → Int32} {A13 : Nat → Int32} {A14 : Nat → Int32} {A15 : Nat → Int32} {A16 : Nat → Int32} {A17 : Nat → Int32} (hp : ∀ r w8 w9 : Nat, kp r w8 w9 = true → post (nI r) ((nI S0), S1, S2, A1, A2, (zq_g A3), A4, A5, (zq_g w8), (zq_g w9), A8, A9, A10, A11, A12, A13, A14, A15, A16, A17)) (fu : Nat) : ∀ (x2 : Nat) (A6 : Nat) (A7 : Nat) (e_x2 : Int32), zb_X_byElimination_2 kp x1 S0 A3 fu x2 A6 A7 = true → e_x2 = nI x2 → wX_byElimination_2 post (nI x1) (nI S0) S1 S2 fu e_x2 A1 A2 (zq_g A3) A4 A5 (zq_g A6) (zq_g A7) A8 A9 A10 A11 A12 A13 A14 A15 A16 A17 := by
  induction fu with
  | zero => intro x2 A6 A7 e_x2 h q_x2; exact absurd h Bool.false_ne_true
  | succ n ih =>
    intro x2 A6 A7 e_x2 h q_x2
    subst q_x2; have h : (zq_if (zq_le (nat_lit 31) x2)
        (zq_fc (zq_set A7 (nat_lit 31) (nat_lit 1)) (fun a7_3 => zb_X_byElimination_34 kp x1 S0 A3 40 (nat_lit 0) (nat_lit 31) A6 a7_3))
        (zq_if (zq_in x2 (nat_lit 32))
        (zq_fc (zq_set A7 (zq_cl x2) (nat_lit 0)) (fun a7_68 => zq_fc (zq_add x2 (nat_lit 1)) (fun x2_69 => (zb_X_byElimination_2 kp x1 S0 A3 n) x2_69 A6 a7_68))) false)) = true := h
    exact zq_br h (zq_cle rfl rfl)
        (fun h => zq_up0 h rfl (fun a7_3 h => Exists.intro 40 (zs_X_byElimination_34 h rfl rfl rfl hp)))
        (fun h => zq_vi h rfl (by decide) (fun h => zq_up h rfl rfl (fun a7_68 h => zq_ly h (zq_hadd rfl rfl) (fun x2_69 h => ih _ _ _ _ h rfl))))
theorem zs_X_byElimination_2 {post : Int32 → St2 → Prop} {kp : Nat → Nat → Nat → Bool} {x1 : Nat} {S0 : Nat} {A3 : Nat} {x2 : Nat} {A6 : Nat} {A7 : Nat} {S1 : Int32} {S2 : Int32} {A1 : Nat → Int32} {A2 : Nat → Int32} {A4 : Nat → Int32} {A5 : Nat → Int32} {A8 : Nat → Int32} {A9 : Nat → Int32} {A10 : Nat → Int32} {A11 : Nat → Int32} {A12 : Nat → Int32} {A13 : Nat → Int32} {A14 : Nat → Int32} {A15 : Nat → Int32} {A16 : Nat → Int32} {A17 : Nat → Int32} {e_x1 : Int32} {e_x2 : Int32} {fu : Nat} (h : zb_X_byElimination_2 kp x1 S0 A3 fu x2 A6 A7 = true) (q_x1 : e_x1 = nI x1) (q_x2 : e_x2 = nI x2) (hp : ∀ r w8 w9 : Nat, kp r w8 w9 = true → post (nI r) ((nI S0), S1, S2, A1, A2, (zq_g A3), A4, A5, (zq_g w8), (zq_g w9), A8, A9, A10, A11, A12, A13, A14, A15, A16, A17)) : wX_byElimination_2 post e_x1 (nI S0) S1 S2 fu e_x2 A1 A2 (zq_g A3) A4 A5 (zq_g A6) (zq_g A7) A8 A9 A10 A11 A12 A13 A14 A15 A16 A17 := by
  subst q_x1; exact zr_X_byElimination_2 hp fu _ _ _ _ h q_x2
noncomputable def zb_X_byElimination (kp : Nat → Nat → Nat → Bool) (p0 : Nat) (S0 : Nat) (A3 : Nat) (A6 : Nat) (A7 : Nat) : Bool :=
        zb_X_byElimination_2 kp p0 S0 A3 40 (nat_lit 0) A6 A7
theorem zs_X_byElimination {post : Int32 → St2 → Prop} {kp : Nat → Nat → Nat → Bool} {p0 : Nat} {S0 : Nat} {A3 : Nat} {A6 : Nat} {A7 : Nat} {S1 : Int32} {S2 : Int32} {A1 : Nat → Int32} {A2 : Nat → Int32} {A4 : Nat → Int32} {A5 : Nat → Int32} {A8 : Nat → Int32} {A9 : Nat → Int32} {A10 : Nat → Int32} {A11 : Nat → Int32} {A12 : Nat → Int32} {A13 : Nat → Int32} {A14 : Nat → Int32} {A15 : Nat → Int32} {A16 : Nat → Int32} {A17 : Nat → Int32} {e_p0 : Int32} (h : zb_X_byElimination kp p0 S0 A3 A6 A7 = true) (q_p0 : e_p0 = nI p0) (hp : ∀ r w8 w9 : Nat, kp r w8 w9 = true → post (nI r) ((nI S0), S1, S2, A1, A2, (zq_g A3), A4, A5, (zq_g w8), (zq_g w9), A8, A9, A10, A11, A12, A13, A14, A15, A16, A17)) : wpX_byElimination post ((nI S0), S1, S2, A1, A2, (zq_g A3), A4, A5, (zq_g A6), (zq_g A7), A8, A9, A10, A11, A12, A13, A14, A15, A16, A17) e_p0 := by
  subst q_p0; have h : (zb_X_byElimination_2 kp p0 S0 A3 40 (nat_lit 0) A6 A7) = true := h
  exact Exists.intro 40 (zs_X_byElimination_2 h rfl rfl hp)
end
section
/-! printed by gen.py: wX_smallestMargin_5 .. wpX_greatestScores -/
noncomputable def zb_X_smallestMargin_5 (kp : Nat → Bool) (x1 : Nat) (A4 : Nat) : Nat → Nat → Nat → Bool := fun fu => @Nat.rec (fun _ => Nat → Nat → Bool) (fun _ _ => false) (fun _ ih => fun x2 x3 =>
        zq_if (zq_le (nat_lit 5) x3)
        (kp x2)
        (zq_if (zq_eq x3 x1)
        (zq_fc (zq_add x3 (nat_lit 1)) (fun x3_3 => ih x2 x3_3))
        (zq_if (zq_in (zq_add (zq_mul (nat_lit 5) x1) x3) (nat_lit 25))
        (zq_if (zq_le x2 (zq_get A4 (zq_cl (zq_add (zq_mul (nat_lit 5) x1) x3))))
        (zq_fc (zq_add x3 (nat_lit 1)) (fun x3_6 => ih x2 x3_6))
        (zq_if (zq_in (zq_add (zq_mul (nat_lit 5) x1) x3) (nat_lit 25))
        (zq_fc (zq_get A4 (zq_cl (zq_add (zq_mul (nat_lit 5) x1) x3))) (fun x2_8 => zq_fc (zq_add x3 (nat_lit 1)) (fun x3_9 => ih x2_8 x3_9))) false)) false))) fu
theorem zr_X_smallestMargin_5 {post : Int32 → Prop} {kp : Nat → Bool} {x1 : Nat} {A4 : Nat} {S0 : Int32} {S1 : Int32} {S2 : Int32} {A1 : Nat → Int32} {A2 : Nat → Int32} {A3 : Nat → Int32} {A5 : Nat → Int32} {A6 : Nat → Int32} {A7 : Nat → Int32} {A8 : Nat → Int32} {A9 : Nat → Int32} {A10 : Nat → Int32} {A11 : Nat → Int32} {A12 : Nat → Int32} {A13 : Nat → Int32} {A14 : Nat → Int32} {A15 : Nat → Int32} {A16 : Nat → Int32} {A17 : Nat → Int32} (hp : ∀ r : Nat, kp r = true → post (nI r)) (fu : Nat) : ∀ (x2 : Nat) (x3 : Nat) (e_x2 : Int32) (e_x3 : Int32), zb_X_smallestMargin_5 kp x1 A4 fu x2 x3 = true → e_x2 = nI x2 → e_x3 = nI x3 → wX_smallestMargin_5 post (nI x1) S0 S1 S2 A1 A2 A3 (zq_g A4) A5 A6 A7 A8 A9 A10 A11 A12 A13 A14 A15 A16 A17 fu e_x2 e_x3 := by
  induction fu with
  | zero => intro x2 x3 e_x2 e_x3 h q_x2 q_x3; exact absurd h Bool.false_ne_true
  | succ n ih =>
    intro x2 x3 e_x2 e_x3 h q_x2 q_x3
    subst q_x2; subst q_x3; have h : (zq_if (zq_le (nat_lit 5) x3)
        (kp x2)
        (zq_if (zq_eq x3 x1)
        (zq_fc (zq_add x3 (nat_lit 1)) (fun x3_3 => (zb_X_smallestMargin_5 kp x1 A4 n) x2 x3_3))
        (zq_if (zq_in (zq_add (zq_mul (nat_lit 5) x1) x3) (nat_lit 25))
        (zq_if (zq_le x2 (zq_get A4 (zq_cl (zq_add (zq_mul (nat_lit 5) x1) x3))))
        (zq_fc (zq_add x3 (nat_lit 1)) (fun x3_6 => (zb_X_smallestMargin_5 kp x1 A4 n) x2 x3_6))
        (zq_if (zq_in (zq_add (zq_mul (nat_lit 5) x1) x3) (nat_lit 25))
        (zq_fc (zq_get A4 (zq_cl (zq_add (zq_mul (nat_lit 5) x1) x3))) (fun x2_8 => zq_fc (zq_add x3 (nat_lit 1)) (fun x3_9 => (zb_X_smallestMargin_5 kp x1 A4 n) x2_8 x3_9))) false)) false))) = true := h
    exact zq_br h (zq_cle rfl rfl)
        (fun h => hp _ h)
        (fun h => zq_br h (zq_ceq rfl rfl)
        (fun h => zq_ly h (zq_hadd rfl rfl) (fun x3_3 h => ih _ _ _ _ h rfl rfl))
        (fun h => zq_vi h (zq_hadd (zq_hmul rfl rfl) rfl) (by decide) (fun h => zq_br h (zq_cle rfl (zq_rd (zq_hadd (zq_hmul rfl rfl) rfl)))
        (fun h => zq_ly h (zq_hadd rfl rfl) (fun x3_6 h => ih _ _ _ _ h rfl rfl))
        (fun h => zq_vi h (zq_hadd (zq_hmul rfl rfl) rfl) (by decide) (fun h => zq_ly h (zq_rd (zq_hadd (zq_hmul rfl rfl) rfl)) (fun x2_8 h => zq_ly h (zq_hadd rfl rfl) (fun x3_9 h => ih _ _ _ _ h rfl rfl)))))))
theorem zs_X_smallestMargin_5 {post : Int32 → Prop} {kp : Nat → Bool} {x1 : Nat} {A4 : Nat} {x2 : Nat} {x3 : Nat} {S0 : Int32} {S1 : Int32} {S2 : Int32} {A1 : Nat → Int32} {A2 : Nat → Int32} {A3 : Nat → Int32} {A5 : Nat → Int32} {A6 : Nat → Int32} {A7 : Nat → Int32} {A8 : Nat → Int32} {A9 : Nat → Int32} {A10 : Nat → Int32} {A11 : Nat → Int32} {A12 : Nat → Int32} {A13 : Nat → Int32} {A14 : Nat → Int32} {A15 : Nat → Int32} {A16 : Nat → Int32} {A17 : Nat → Int32} {e_x1 : Int32} {e_x2 : Int32} {e_x3 : Int32} {fu : Nat} (h : zb_X_smallestMargin_5 kp x1 A4 fu x2 x3 = true) (q_x1 : e_x1 = nI x1) (q_x2 : e_x2 = nI x2) (q_x3 : e_x3 = nI x3) (hp : ∀ r : Nat, kp r = true → post (nI r)) : wX_smallestMargin_5 post e_x1 S0 S1 S2 A1 A2 A3 (zq_g A4) A5 A6 A7 A8 A9 A10 A11 A12 A13 A14 A15 A16 A17 fu e_x2 e_x3 := by
  subst q_x1; exact zr_X_smallestMargin_5 hp fu _ _ _ _ h q_x2 q_x3
noncomputable def zb_X_smallestMargin (kp : Nat → Bool) (p0 : Nat) (A4 : Nat) : Bool :=
        zb_X_smallestMargin_5 kp p0 A4 40 (nat_lit 100) (nat_lit 0)
theorem zs_X_smallestMargin {post : Int32 → Prop} {kp : Nat → Bool} {p0 : Nat} {A4 : Nat} {S0 : Int32} {S1 : Int32} {S2 : Int32} {A1 : Nat → Int32} {A2 : Nat → Int32} {A3 : Nat → Int32} {A5 : Nat → Int32} {A6 : Nat → Int32} {A7 : Nat → Int32} {A8 : Nat → Int32} {A9 : Nat → Int32} {A10 : Nat → Int32} {A11 : Nat → Int32} {A12 : Nat → Int32} {A13 : Nat → Int32} {A14 : Nat → Int32} {A15 : Nat → Int32} {A16 : Nat → Int32} {A17 : Nat → Int32} {e_p0 : Int32} (h : zb_X_smallestMargin kp p0 A4 = true) (q_p0 : e_p0 = nI p0) (hp : ∀ r : Nat, kp r = true → post (nI r)) : wpX_smallestMargin post (S0, S1, S2, A1, A2, A3, (zq_g A4), A5, A6, A7, A8, A9, A10, A11, A12, A13, A14, A15, A16, A17) e_p0 := by
  subst q_p0; have h : (zb_X_smallestMargin_5 kp p0 A4 40 (nat_lit 100) (nat_lit 0)) = true := h
  exact Exists.intro 40 (zs_X_smallestMargin_5 h rfl rfl rfl hp)
noncomputable def zb_X_copeland_4 (kp : Nat → Bool) (x1 : Nat) (A4 : Nat) : Nat → Nat → Nat → Bool := fun fu => @Nat.rec (fun _ => Nat → Nat → Bool) (fun _ _ => false) (fun _ ih => fun x2 x3 =>
        zq_if (zq_le (nat_lit 5) x3)
        (kp x2)
        (zq_if (zq_eq x3 x1)
        (zq_fc (zq_add x3 (nat_lit 1)) (fun x3_13 => ih x2 x3_13))
        (zq_if (zq_in (zq_add (zq_mul (nat_lit 5) x1) x3) (nat_lit 25))
        (zq_fc (zq_get A4 (zq_cl (zq_add (zq_mul (nat_lit 5) x1) x3))) (fun x4_4 => zq_if (zq_le x4_4 (nat_lit 0))
        (zq_if (zq_eq x4_4 (nat_lit 0))
        (zq_fc (zq_add x2 (nat_lit 1)) (fun x2_9 => zq_fc (zq_add x3 (nat_lit 1)) (fun x3_10 => ih x2_9 x3_10)))
        (zq_fc (zq_add x2 (nat_lit 0)) (fun x2_7 => zq_fc (zq_add x3 (nat_lit 1)) (fun x3_8 => ih x2_7 x3_8))))
        (zq_fc (zq_add x2 (nat_lit 2)) (fun x2_11 => zq_fc (zq_add x3 (nat_lit 1)) (fun x3_12 => ih x2_11 x3_12))))) false))) fu
theorem zr_X_copeland_4 {post : Int32 → Prop} {kp : Nat → Bool} {x1 : Nat} {A4 : Nat} {S0 : Int32} {S1 : Int32} {S2 : Int32} {A1 : Nat → Int32} {A2 : Nat → Int32} {A3 : Nat → Int32} {A5 : Nat → Int32} {A6 : Nat → Int32} {A7 : Nat → Int32} {A8 : Nat → Int32} {A9 : Nat → Int32} {A10 : Nat → Int32} {A11 : Nat → Int32} {A12 : Nat → Int32} {A13 : Nat → Int32} {A14 : Nat → Int32} {A15 : Nat → Int32} {A16 : Nat → Int32} {A17 : Nat → Int32} (hp : ∀ r : Nat, kp r = true → post (nI r)) (fu : Nat) : ∀ (x2 : Nat) (x3 : Nat) (e_x2 : Int32) (e_x3 : Int32), zb_X_copeland_4 kp x1 A4 fu x2 x3 = true → e_x2 = nI x2 → e_x3 = nI x3 → wX_copeland_4 post (nI x1) S0 S1 S2 A1 A2 A3 (zq_g A4) A5 A6 A7 A8 A9 A10 A11 A12 A13 A14 A15 A16 A17 fu e_x2 e_x3 := by
  induction fu with
  | zero => intro x2 x3 e_x2 e_x3 h q_x2 q_x3; exact absurd h Bool.false_ne_true
  | succ n ih =>
    intro x2 x3 e_x2 e_x3 h q_x2 q_x3
    subst q_x2; subst q_x3; have h : (zq_if (zq_le (nat_lit 5) x3)
        (kp x2)
        (zq_if (zq_eq x3 x1)
        (zq_fc (zq_add x3 (nat_lit 1)) (fun x3_13 => (zb_X_copeland_4 kp x1 A4 n) x2 x3_13))
        (zq_if (zq_in (zq_add (zq_mul (nat_lit 5) x1) x3) (nat_lit 25))
        (zq_fc (zq_get A4 (zq_cl (zq_add (zq_mul (nat_lit 5) x1) x3))) (fun x4_4 => zq_if (zq_le x4_4 (nat_lit 0))
        (zq_if (zq_eq x4_4 (nat_lit 0))
        (zq_fc (zq_add x2 (nat_lit 1)) (fun x2_9 => zq_fc (zq_add x3 (nat_lit 1)) (fun x3_10 => (zb_X_copeland_4 kp x1 A4 n) x2_9 x3_10)))
        (zq_fc (zq_add x2 (nat_lit 0)) (fun x2_7 => zq_fc (zq_add x3 (nat_lit 1)) (fun x3_8 => (zb_X_copeland_4 kp x1 A4 n) x2_7 x3_8))))
        (zq_fc (zq_add x2 (nat_lit 2)) (fun x2_11 => zq_fc (zq_add x3 (nat_lit 1)) (fun x3_12 => (zb_X_copeland_4 kp x1 A4 n) x2_11 x3_12))))) false))) = true := h
    exact zq_br h (zq_cle rfl rfl)
        (fun h => hp _ h)
        (fun h => zq_br h (zq_ceq rfl rfl)
        (fun h => zq_ly h (zq_hadd rfl rfl) (fun x3_13 h => ih _ _ _ _ h rfl rfl))
        (fun h => zq_vi h (zq_hadd (zq_hmul rfl rfl) rfl) (by decide) (fun h => zq_ly h (zq_rd (zq_hadd (zq_hmul rfl rfl) rfl)) (fun x4_4 h => zq_br h (zq_cle rfl rfl)
        (fun h => zq_br h (zq_ceq rfl rfl)
        (fun h => zq_ly h (zq_hadd rfl rfl) (fun x2_9 h => zq_ly h (zq_hadd rfl rfl) (fun x3_10 h => ih _ _ _ _ h rfl rfl)))
        (fun h => zq_ly h (zq_hadd rfl rfl) (fun x2_7 h => zq_ly h (zq_hadd rfl rfl) (fun x3_8 h => ih _ _ _ _ h rfl rfl))))
        (fun h => zq_ly h (zq_hadd rfl rfl) (fun x2_11 h => zq_ly h (zq_hadd rfl rfl) (fun x3_12 h => ih _ _ _ _ h rfl rfl)))))))
theorem zs_X_copeland_4 {post : Int32 → Prop} {kp : Nat → Bool} {x1 : Nat} {A4 : Nat} {x2 : Nat} {x3 : Nat} {S0 : Int32} {S1 : Int32} {S2 : Int32} {A1 : Nat → Int32} {A2 : Nat → Int32} {A3 : Nat → Int32} {A5 : Nat → Int32} {A6 : Nat → Int32} {A7 : Nat → Int32} {A8 : Nat → Int32} {A9 : Nat → Int32} {A10 : Nat → Int32} {A11 : Nat → Int32} {A12 : Nat → Int32} {A13 : Nat → Int32} {A14 : Nat → Int32} {A15 : Nat → Int32} {A16 : Nat → Int32} {A17 : Nat → Int32} {e_x1 : Int32} {e_x2 : Int32} {e_x3 : Int32} {fu : Nat} (h : zb_X_copeland_4 kp x1 A4 fu x2 x3 = true) (q_x1 : e_x1 = nI x1) (q_x2 : e_x2 = nI x2) (q_x3 : e_x3 = nI x3) (hp : ∀ r : Nat, kp r = true → post (nI r)) : wX_copeland_4 post e_x1 S0 S1 S2 A1 A2 A3 (zq_g A4) A5 A6 A7 A8 A9 A10 A11 A12 A13 A14 A15 A16 A17 fu e_x2 e_x3 := by
  subst q_x1; exact zr_X_copeland_4 hp fu _ _ _ _ h q_x2 q_x3
noncomputable def zb_X_copeland (kp : Nat → Bool) (p0 : Nat) (A4 : Nat) : Bool :=
        zb_X_copeland_4 kp p0 A4 40 (nat_lit 0) (nat_lit 0)
theorem zs_X_copeland {post : Int32 → Prop} {kp : Nat → Bool} {p0 : Nat} {A4 : Nat} {S0 : Int32} {S1 : Int32} {S2 : Int32} {A1 : Nat → Int32} {A2 : Nat → Int32} {A3 : Nat → Int32} {A5 : Nat → Int32} {A6 : Nat → Int32} {A7 : Nat → Int32} {A8 : Nat → Int32} {A9 : Nat → Int32} {A10 : Nat → Int32} {A11 : Nat → Int32} {A12 : Nat → Int32} {A13 : Nat → Int32} {A14 : Nat → Int32} {A15 : Nat → Int32} {A16 : Nat → Int32} {A17 : Nat → Int32} {e_p0 : Int32} (h : zb_X_copeland kp p0 A4 = true) (q_p0 : e_p0 = nI p0) (hp : ∀ r : Nat, kp r = true → post (nI r)) : wpX_copeland post (S0, S1, S2, A1, A2, A3, (zq_g A4), A5, A6, A7, A8, A9, A10, A11, A12, A13, A14, A15, A16, A17) e_p0 := by
  subst q_p0; have h : (zb_X_copeland_4 kp p0 A4 40 (nat_lit 0) (nat_lit 0)) = true := h
  exact Exists.intro 40 (zs_X_copeland_4 h rfl rfl rfl hp)
noncomputable def zb_X_countAmongFirst_32 (kp : Nat → Bool) (kJ22 : Nat → Nat → Bool) (x1 : Nat) (x2 : Nat) (S0 : Nat) (A2 : Nat) : Nat → Nat → Nat → Bool := fun fu => @Nat.rec (fun _ => Nat → Nat → Bool) (fun _ _ => false) (fun _ ih => fun x3 A6 =>
        zq_if (zq_le x1 x3)
        (zq_fc (zq_add x2 (nat_lit 1)) (fun x2_4 => kJ22 x2_4 A6))
        (zq_if (zq_in (zq_add (zq_mul (nat_lit 5) x2) x3) (nat_lit 45))
        (zq_if (zq_in (zq_get A2 (zq_cl (zq_add (zq_mul (nat_lit 5) x2) x3))) (nat_lit 5))
        (zq_if (zq_in (zq_get A2 (zq_cl (zq_add (zq_mul (nat_lit 5) x2) x3))) (nat_lit 5))
        (zq_fc (zq_set A6 (zq_cl (zq_get A2 (zq_cl (zq_add (zq_mul (nat_lit 5) x2) x3)))) (zq_add (zq_get A6 (zq_cl (zq_get A2 (zq_cl (zq_add (zq_mul (nat_lit 5) x2) x3))))) (nat_lit 1))) (fun a6_8 => zq_fc (zq_add x3 (nat_lit 1)) (fun x3_9 => ih x3_9 a6_8))) false) false) false)) fu
theorem zr_X_countAmongFirst_32 {post : St2 → Prop} {J22 : Int32 → (Nat → Int32) → (Nat → Int32) → (Nat → Int32) → (Nat → Int32) → (Nat → Int32) → (Nat → Int32) → (Nat → Int32) → (Nat → Int32) → (Nat → Int32) → (Nat → Int32) → (Nat → Int32) → (Nat → Int32) → (Nat → Int32) → (Nat → Int32) → (Nat → Int32) → (Nat → Int32) → (Nat → Int32) → Prop} {kp : Nat → Bool} {kJ22 : Nat → Nat → Bool} {x1 : Nat} {x2 : Nat} {S0 : Nat} {A2 : Nat} {S1 : Int32} {S2 : Int32} {A1 : Nat → Int32} {A3 : Nat → Int32} {A4 : Nat → Int32} {A5 : Nat → Int32} {A7 : Nat → Int32} {A8 : Nat → Int32} {A9 : Nat → Int32} {A10 : Nat → Int32} {A11 : Nat → Int32} {A12 : Nat → Int32} {A13 : Nat → Int32} {A14 : Nat → Int32} {A15 : Nat → Int32} {A16 : Nat → Int32} {A17 : Nat → Int32} (hp : ∀ w8 : Nat, kp w8 = true → post ((nI S0), S1, S2, A1, (zq_g A2), A3, A4, A5, (zq_g w8), A7, A8, A9, A10, A11, A12, A13, A14, A15, A16, A17)) (hJ22 : ∀ y_x2 v8 : Nat, kJ22 y_x2 v8 = true → J22 (nI y_x2) A1 (zq_g A2) A3 A4 A5 (zq_g v8) A7 A8 A9 A10 A11 A12 A13 A14 A15 A16 A17) (fu : Nat) : ∀ (x3 : Nat) (A6 : Nat) (e_x3 : Int32), zb_X_countAmongFirst_32 kp kJ22 x1 x2 S0 A2 fu x3 A6 = true → e_x3 = nI x3 → wX_countAmongFirst_32 post J22 (nI x1) (nI x2) (nI S0) S1 S2 fu e_x3 A1 (zq_g A2) A3 A4 A5 (zq_g A6) A7 A8 A9 A10 A11 A12 A13 A14 A15 A16 A17 := by
  induction fu with
  | zero => intro x3 A6 e_x3 h q_x3; exact absurd h Bool.false_ne_true
  | succ n ih =>
    intro x3 A6 e_x3 h q_x3
    subst q_x3; have h : (zq_if (zq_le x1 x3)
        (zq_fc (zq_add x2 (nat_lit 1)) (fun x2_4 => kJ22 x2_4 A6))
        (zq_if (zq_in (zq_add (zq_mul (nat_lit 5) x2) x3) (nat_lit 45))
        (zq_if (zq_in (zq_get A2 (zq_cl (zq_add (zq_mul (nat_lit 5) x2) x3))) (nat_lit 5))
        (zq_if (zq_in (zq_get A2 (zq_cl (zq_add (zq_mul (nat_lit 5) x2) x3))) (nat_lit 5))
        (zq_fc (zq_set A6 (zq_cl (zq_get A2 (zq_cl (zq_add (zq_mul (nat_lit 5) x2) x3)))) (zq_add (zq_get A6 (zq_cl (zq_get A2 (zq_cl (zq_add (zq_mul (nat_lit 5) x2) x3))))) (nat_lit 1))) (fun a6_8 => zq_fc (zq_add x3 (nat_lit 1)) (fun x3_9 => (zb_X_countAmongFirst_32 kp kJ22 x1 x2 S0 A2 n) x3_9 a6_8))) false) false) false)) = true := h
    exact zq_br h (zq_cle rfl rfl)
        (fun h => zq_ly h (zq_hadd rfl rfl) (fun x2_4 h => hJ22 _ _ h))
        (fun h => zq_vi h (zq_hadd (zq_hmul rfl rfl) rfl) (by decide) (fun h => zq_vi h (zq_rd (zq_hadd (zq_hmul rfl rfl) rfl)) (by decide) (fun h => zq_vi h (zq_rd (zq_hadd (zq_hmul rfl rfl) rfl)) (by decide) (fun h => zq_up h (zq_rd (zq_hadd (zq_hmul rfl rfl) rfl)) (zq_hadd (zq_rd (zq_rd (zq_hadd (zq_hmul rfl rfl) rfl))) rfl) (fun a6_8 h => zq_ly h (zq_hadd rfl rfl) (fun x3_9 h => ih _ _ _ h rfl))))))
theorem zs_X_countAmongFirst_32 {post : St2 → Prop} {J22 : Int32 → (Nat → Int32) → (Nat → Int32) → (Nat → Int32) → (Nat → Int32) → (Nat → Int32) → (Nat → Int32) → (Nat → Int32) → (Nat → Int32) → (Nat → Int32) → (Nat → Int32) → (Nat → Int32) → (Nat → Int32) → (Nat → Int32) → (Nat → Int32) → (Nat → Int32) → (Nat → Int32) → (Nat → Int32) → Prop} {kp : Nat → Bool} {kJ22 : Nat → Nat → Bool} {x1 : Nat} {x2 : Nat} {S0 : Nat} {A2 : Nat} {x3 : Nat} {A6 : Nat} {S1 : Int32} {S2 : Int32} {A1 : Nat → Int32} {A3 : Nat → Int32} {A4 : Nat → Int32} {A5 : Nat → Int32} {A7 : Nat → Int32} {A8 : Nat → Int32} {A9 : Nat → Int32} {A10 : Nat → Int32} {A11 : Nat → Int32} {A12 : Nat → Int32} {A13 : Nat → Int32} {A14 : Nat → Int32} {A15 : Nat → Int32} {A16 : Nat → Int32} {A17 : Nat → Int32} {e_x1 : Int32} {e_x2 : Int32} {e_x3 : Int32} {fu : Nat} (h : zb_X_countAmongFirst_32 kp kJ22 x1 x2 S0 A2 fu x3 A6 = true) (q_x1 : e_x1 = nI x1) (q_x2 : e_x2 = nI x2) (q_x3 : e_x3 = nI x3) (hp : ∀ w8 : Nat, kp w8 = true → post ((nI S0), S1, S2, A1, (zq_g A2), A3, A4, A5, (zq_g w8), A7, A8, A9, A10, A11, A12, A13, A14, A15, A16, A17)) (hJ22 : ∀ y_x2 v8 : Nat, kJ22 y_x2 v8 = true → J22 (nI y_x2) A1 (zq_g A2) A3 A4 A5 (zq_g v8) A7 A8 A9 A10 A11 A12 A13 A14 A15 A16 A17) : wX_countAmongFirst_32 post J22 e_x1 e_x2 (nI S0) S1 S2 fu e_x3 A1 (zq_g A2) A3 A4 A5 (zq_g A6) A7 A8 A9 A10 A11 A12 A13 A14 A15 A16 A17 := by
  subst q_x1; subst q_x2; exact zr_X_countAmongFirst_32 hp hJ22 fu _ _ _ h q_x3
noncomputable def zb_X_countAmongFirst_22 (kp : Nat → Bool) (x1 : Nat) (S0 : Nat) (A2 : Nat) : Nat → Nat → Nat → Bool := fun fu => @Nat.rec (fun _ => Nat → Nat → Bool) (fun _ _ => false) (fun _ ih => fun x2 A6 =>
        zq_if (zq_le S0 x2)
        (kp A6)
        (zb_X_countAmongFirst_32 kp ih x1 x2 S0 A2 40 (nat_lit 0) A6)) fu
theorem zr_X_countAmongFirst_22 {post : St2 → Prop} {kp : Nat → Bool} {x1 : Nat} {S0 : Nat} {A2 : Nat} {S1 : Int32} {S2 : Int32} {A1 : Nat → Int32} {A3 : Nat → Int32} {A4 : Nat → Int32} {A5 : Nat → Int32} {A7 : Nat → Int32} {A8 : Nat → Int32} {A9 : Nat → Int32} {A10 : Nat → Int32} {A11 : Nat → Int32} {A12 : Nat → Int32} {A13 : Nat → Int32} {A14 : Nat → Int32} {A15 : Nat → Int32} {A16 : Nat → Int32} {A17 : Nat → Int32} (hp : ∀ w8 : Nat, kp w8 = true → post ((nI S0), S1, S2, A1, (zq_g A2), A3, A4, A5, (zq_g w8), A7, A8, A9, A10, A11, A12, A13, A14, A15, A16, A17)) (fu : Nat) : ∀ (x2 : Nat) (A6 : Nat) (e_x2 : Int32), zb_X_countAmongFirst_22 kp x1 S0 A2 fu x2 A6 = true → e_x2 = nI x2 → wX_countAmongFirst_22 post (nI x1) (nI S0) S1 S2 fu e_x2 A1 (zq_g A2) A3 A4 A5 (zq_g A6) A7 A8 A9 A10 A11 A12 A13 A14 A15 A16 A17 := by
  induction fu with
  | zero => intro x2 A6 e_x2 h q_x2; exact absurd h Bool.false_ne_true
  | succ n ih =>
    intro x2 A6 e_x2 h q_x2
    subst q_x2; have h : (zq_if (zq_le S0 x2)
        (kp A6)
        (zb_X_countAmongFirst_32 kp (zb_X_countAmongFirst_22 kp x1 S0 A2 n) x1 x2 S0 A2 40 (nat_lit 0) A6)) = true := h
    exact zq_br h (zq_cle rfl rfl)
        (fun h => hp _ h)
        (fun h => Exists.intro 40 (zs_X_countAmongFirst_32 h rfl rfl rfl hp (fun y0 y1 h => ih y0 y1 _ h rfl)))
theorem zs_X_countAmongFirst_22 {post : St2 → Prop} {kp : Nat → Bool} {x1 : Nat} {S0 : Nat} {A2 : Nat} {x2 : Nat} {A6 : Nat} {S1 : Int32} {S2 : Int32} {A1 : Nat → Int32} {A3 : Nat → Int32} {A4 : Nat → Int32} {A5 : Nat → Int32} {A7 : Nat → Int32} {A8 : Nat → Int32} {A9 : Nat → Int32} {A10 : Nat → Int32} {A11 : Nat → Int32} {A12 : Nat → Int32} {A13 : Nat → Int32} {A14 : Nat → Int32} {A15 : Nat → Int32} {A16 : Nat → Int32} {A17 : Nat → Int32} {e_x1 : Int32} {e_x2 : Int32} {fu : Nat} (h : zb_X_countAmongFirst_22 kp x1 S0 A2 fu x2 A6 = true) (q_x1 : e_x1 = nI x1) (q_x2 : e_x2 = nI x2) (hp : ∀ w8 : Nat, kp w8 = true → post ((nI S0), S1, S2, A1, (zq_g A2), A3, A4, A5, (zq_g w8), A7, A8, A9, A10, A11, A12, A13, A14, A15, A16, A17)) : wX_countAmongFirst_22 post e_x1 (nI S0) S1 S2 fu e_x2 A1 (zq_g A2) A3 A4 A5 (zq_g A6) A7 A8 A9 A10 A11 A12 A13 A14 A15 A16 A17 := by
  subst q_x1; exact zr_X_countAmongFirst_22 hp fu _ _ _ h q_x2
noncomputable def zb_X_countAmongFirst_2 (kp : Nat → Bool) (x1 : Nat) (S0 : Nat) (A2 : Nat) : Nat → Nat → Nat → Bool := fun fu => @Nat.rec (fun _ => Nat → Nat → Bool) (fun _ _ => false) (fun _ ih => fun x2 A6 =>
        zq_if (zq_le (nat_lit 5) x2)
        (zb_X_countAmongFirst_22 kp x1 S0 A2 40 (nat_lit 0) A6)
        (zq_if (zq_in x2 (nat_lit 5))
        (zq_fc (zq_set A6 (zq_cl x2) (nat_lit 0)) (fun a6_11 => zq_fc (zq_add x2 (nat_lit 1)) (fun x2_12 => ih x2_12 a6_11))) false)) fu
theorem zr_X_countAmongFirst_2 {post : St2 → Prop} {kp : Nat → Bool} {x1 : Nat} {S0 : Nat} {A2 : Nat} {S1 : Int32} {S2 : Int32} {A1 : Nat → Int32} {A3 : Nat → Int32} {A4 : Nat → Int32} {A5 : Nat → Int32} {A7 : Nat → Int32} {A8 : Nat → Int32} {A9 : Nat → Int32} {A10 : Nat → Int32} {A11 : Nat → Int32} {A12 : Nat → Int32} {A13 : Nat → Int32} {A14 : Nat → Int32} {A15 : Nat → Int32} {A16 : Nat → Int32} {A17 : Nat → Int32} (hp : ∀ w8 : Nat, kp w8 = true → post ((nI S0), S1, S2, A1, (zq_g A2), A3, A4, A5, (zq_g w8), A7, A8, A9, A10, A11, A12, A13, A14, A15, A16, A17)) (fu : Nat) : ∀ (x2 : Nat) (A6 : Nat) (e_x2 : Int32), zb_X_countAmongFirst_2 kp x1 S0 A2 fu x2 A6 = true → e_x2 = nI x2 → wX_countAmongFirst_2 post (nI x1) (nI S0) S1 S2 fu e_x2 A1 (zq_g A2) A3 A4 A5 (zq_g A6) A7 A8 A9 A10 A11 A12 A13 A14 A15 A16 A17 := by
  induction fu with
  | zero => intro x2 A6 e_x2 h q_x2; exact absurd h Bool.false_ne_true
  | succ n ih =>
    intro x2 A6 e_x2 h q_x2
    subst q_x2; have h : (zq_if (zq_le (nat_lit 5) x2)
        (zb_X_countAmongFirst_22 kp x1 S0 A2 40 (nat_lit 0) A6)
        (zq_if (zq_in x2 (nat_lit 5))
        (zq_fc (zq_set A6 (zq_cl x2) (nat_lit 0)) (fun a6_11 => zq_fc (zq_add x2 (nat_lit 1)) (fun x2_12 => (zb_X_countAmongFirst_2 kp x1 S0 A2 n) x2_12 a6_11))) false)) = true := h
    exact zq_br h (zq_cle rfl rfl)
        (fun h => Exists.intro 40 (zs_X_countAmongFirst_22 h rfl rfl hp))
        (fun h => zq_vi h rfl (by decide) (fun h => zq_up h rfl rfl (fun a6_11 h => zq_ly h (zq_hadd rfl rfl) (fun x2_12 h => ih _ _ _ h rfl))))
theorem zs_X_countAmongFirst_2 {post : St2 → Prop} {kp : Nat → Bool} {x1 : Nat} {S0 : Nat} {A2 : Nat} {x2 : Nat} {A6 : Nat} {S1 : Int32} {S2 : Int32} {A1 : Nat → Int32} {A3 : Nat → Int32} {A4 : Nat → Int32} {A5 : Nat → Int32} {A7 : Nat → Int32} {A8 : Nat → Int32} {A9 : Nat → Int32} {A10 : Nat → Int32} {A11 : Nat → Int32} {A12 : Nat → Int32} {A13 : Nat → Int32} {A14 : Nat → Int32} {A15 : Nat → Int32} {A16 : Nat → Int32} {A17 : Nat → Int32} {e_x1 : Int32} {e_x2 : Int32} {fu : Nat} (h : zb_X_countAmongFirst_2 kp x1 S0 A2 fu x2 A6 = true) (q_x1 : e_x1 = nI x1) (q_x2 : e_x2 = nI x2) (hp : ∀ w8 : Nat, kp w8 = true → post ((nI S0), S1, S2, A1, (zq_g A2), A3, A4, A5, (zq_g w8), A7, A8, A9, A10, A11, A12, A13, A14, A15, A16, A17)) : wX_countAmongFirst_2 post e_x1 (nI S0) S1 S2 fu e_x2 A1 (zq_g A2) A3 A4 A5 (zq_g A6) A7 A8 A9 A10 A11 A12 A13 A14 A15 A16 A17 := by
  subst q_x1; exact zr_X_countAmongFirst_2 hp fu _ _ _ h q_x2
noncomputable def zb_X_countAmongFirst (kp : Nat → Bool) (p0 : Nat) (S0 : Nat) (A2 : Nat) (A6 : Nat) : Bool :=
        zb_X_countAmongFirst_2 kp p0 S0 A2 40 (nat_lit 0) A6
theorem zs_X_countAmongFirst {post : St2 → Prop} {kp : Nat → Bool} {p0 : Nat} {S0 : Nat} {A2 : Nat} {A6 : Nat} {S1 : Int32} {S2 : Int32} {A1 : Nat → Int32} {A3 : Nat → Int32} {A4 : Nat → Int32} {A5 : Nat → Int32} {A7 : Nat → Int32} {A8 : Nat → Int32} {A9 : Nat → Int32} {A10 : Nat → Int32} {A11 : Nat → Int32} {A12 : Nat → Int32} {A13 : Nat → Int32} {A14 : Nat → Int32} {A15 : Nat → Int32} {A16 : Nat → Int32} {A17 : Nat → Int32} {e_p0 : Int32} (h : zb_X_countAmongFirst kp p0 S0 A2 A6 = true) (q_p0 : e_p0 = nI p0) (hp : ∀ w8 : Nat, kp w8 = true → post ((nI S0), S1, S2, A1, (zq_g A2), A3, A4, A5, (zq_g w8), A7, A8, A9, A10, A11, A12, A13, A14, A15, A16, A17)) : wpX_countAmongFirst post ((nI S0), S1, S2, A1, (zq_g A2), A3, A4, A5, (zq_g A6), A7, A8, A9, A10, A11, A12, A13, A14, A15, A16, A17) e_p0 := by
  subst q_p0; have h : (zb_X_countAmongFirst_2 kp p0 S0 A2 40 (nat_lit 0) A6) = true := h
  exact Exists.intro 40 (zs_X_countAmongFirst_2 h rfl rfl hp)
noncomputable def zb_X_hasHalf_2 (kp : Nat → Bool) (S0 : Nat) (A6 : Nat) : Nat → Nat → Bool := fun fu => @Nat.rec (fun _ => Nat → Bool) (fun _ => false) (fun _ ih => fun x1 =>
        zq_if (zq_le (nat_lit 5) x1)
        (kp (nat_lit 0))
        (zq_if (zq_in x1 (nat_lit 5))
        (zq_if (zq_le (zq_mul (nat_lit 2) (zq_get A6 (zq_cl x1))) S0)
        (zq_fc (zq_add x1 (nat_lit 1)) (fun x1_4 => ih x1_4))
        (kp (nat_lit 1))) false)) fu
theorem zr_X_hasHalf_2 {post : Int32 → Prop} {kp : Nat → Bool} {S0 : Nat} {A6 : Nat} {S1 : Int32} {S2 : Int32} {A1 : Nat → Int32} {A2 : Nat → Int32} {A3 : Nat → Int32} {A4 : Nat → Int32} {A5 : Nat → Int32} {A7 : Nat → Int32} {A8 : Nat → Int32} {A9 : Nat → Int32} {A10 : Nat → Int32} {A11 : Nat → Int32} {A12 : Nat → Int32} {A13 : Nat → Int32} {A14 : Nat → Int32} {A15 : Nat → Int32} {A16 : Nat → Int32} {A17 : Nat → Int32} (hp : ∀ r : Nat, kp r = true → post (nI r)) (fu : Nat) : ∀ (x1 : Nat) (e_x1 : Int32), zb_X_hasHalf_2 kp S0 A6 fu x1 = true → e_x1 = nI x1 → wX_hasHalf_2 post (nI S0) S1 S2 A1 A2 A3 A4 A5 (zq_g A6) A7 A8 A9 A10 A11 A12 A13 A14 A15 A16 A17 fu e_x1 := by
  induction fu with
  | zero => intro x1 e_x1 h q_x1; exact absurd h Bool.false_ne_true
  | succ n ih =>
    intro x1 e_x1 h q_x1
    subst q_x1; have h : (zq_if (zq_le (nat_lit 5) x1)
        (kp (nat_lit 0))
        (zq_if (zq_in x1 (nat_lit 5))
        (zq_if (zq_le (zq_mul (nat_lit 2) (zq_get A6 (zq_cl x1))) S0)
        (zq_fc (zq_add x1 (nat_lit 1)) (fun x1_4 => (zb_X_hasHalf_2 kp S0 A6 n) x1_4))
        (kp (nat_lit 1))) false)) = true := h
    exact zq_br h (zq_cle rfl rfl)
        (fun h => hp _ h)
        (fun h => zq_vi h rfl (by decide) (fun h => zq_br h (zq_cle (zq_hmul rfl (zq_rd rfl)) rfl)
        (fun h => zq_ly h (zq_hadd rfl rfl) (fun x1_4 h => ih _ _ h rfl))
        (fun h => hp _ h)))
theorem zs_X_hasHalf_2 {post : Int32 → Prop} {kp : Nat → Bool} {S0 : Nat} {A6 : Nat} {x1 : Nat} {S1 : Int32} {S2 : Int32} {A1 : Nat → Int32} {A2 : Nat → Int32} {A3 : Nat → Int32} {A4 : Nat → Int32} {A5 : Nat → Int32} {A7 : Nat → Int32} {A8 : Nat → Int32} {A9 : Nat → Int32} {A10 : Nat → Int32} {A11 : Nat → Int32} {A12 : Nat → Int32} {A13 : Nat → Int32} {A14 : Nat → Int32} {A15 : Nat → Int32} {A16 : Nat → Int32} {A17 : Nat → Int32} {e_x1 : Int32} {fu : Nat} (h : zb_X_hasHalf_2 kp S0 A6 fu x1 = true) (q_x1 : e_x1 = nI x1) (hp : ∀ r : Nat, kp r = true → post (nI r)) : wX_hasHalf_2 post (nI S0) S1 S2 A1 A2 A3 A4 A5 (zq_g A6) A7 A8 A9 A10 A11 A12 A13 A14 A15 A16 A17 fu e_x1 := by
  exact zr_X_hasHalf_2 hp fu _ _ h q_x1
noncomputable def zb_X_hasHalf (kp : Nat → Bool) (S0 : Nat) (A6 : Nat) : Bool :=
        zb_X_hasHalf_2 kp S0 A6 40 (nat_lit 0)
theorem zs_X_hasHalf {post : Int32 → Prop} {kp : Nat → Bool} {S0 : Nat} {A6 : Nat} {S1 : Int32} {S2 : Int32} {A1 : Nat → Int32} {A2 : Nat → Int32} {A3 : Nat → Int32} {A4 : Nat → Int32} {A5 : Nat → Int32} {A7 : Nat → Int32} {A8 : Nat → Int32} {A9 : Nat → Int32} {A10 : Nat → Int32} {A11 : Nat → Int32} {A12 : Nat → Int32} {A13 : Nat → Int32} {A14 : Nat → Int32} {A15 : Nat → Int32} {A16 : Nat → Int32} {A17 : Nat → Int32} (h : zb_X_hasHalf kp S0 A6 = true) (hp : ∀ r : Nat, kp r = true → post (nI r)) : wpX_hasHalf post ((nI S0), S1, S2, A1, A2, A3, A4, A5, (zq_g A6), A7, A8, A9, A10, A11, A12, A13, A14, A15, A16, A17) := by
  have h : (zb_X_hasHalf_2 kp S0 A6 40 (nat_lit 0)) = true := h
  exact Exists.intro 40 (zs_X_hasHalf_2 h rfl hp)
noncomputable def zb_X_findScores_59 (kp : Nat → Bool) (kJ31 : Nat → Nat → Bool) (x1 : Nat) (x2 : Nat) (z0 : Nat) (z1 : Nat) (S0 : Nat) (A2 : Nat) (A3 : Nat) (A4 : Nat) (A6 : Nat) : Bool :=
        zq_if (zq_in (zq_add z1 z0) (nat_lit 45))
        (zq_if (zq_in (zq_get A2 (zq_cl (zq_add z1 z0))) (nat_lit 5))
        (zq_if (zq_eq x1 (nat_lit 0))
        (zq_if (zq_in (zq_get A2 (zq_cl (zq_add z1 z0))) (nat_lit 5))
        (zq_fc (zq_set A6 (zq_cl (zq_get A2 (zq_cl (zq_add z1 z0)))) (zq_add (zq_get A6 (zq_cl (zq_get A2 (zq_cl (zq_add z1 z0))))) (nat_lit 1))) (fun a6_12 => zq_fc (zq_add x2 (nat_lit 1)) (fun x2_13 => kJ31 x2_13 a6_12))) false)
        (zq_if (zq_in (zq_get A2 (zq_cl (zq_add z1 z0))) (nat_lit 5))
        (zq_fc (zq_set A6 (zq_cl (zq_get A2 (zq_cl (zq_add z1 z0)))) (zq_add (zq_get A6 (zq_cl (zq_get A2 (zq_cl (zq_add z1 z0))))) (nat_lit 4294967295))) (fun a6_9 => zq_fc (zq_add x2 (nat_lit 1)) (fun x2_10 => kJ31 x2_10 a6_9))) false)) false) false
theorem zs_X_findScores_59 {post : St2 → Prop} {J31 : Int32 → (Nat → Int32) → (Nat → Int32) → (Nat → Int32) → (Nat → Int32) → (Nat → Int32) → (Nat → Int32) → (Nat → Int32) → (Nat → Int32) → (Nat → Int32) → (Nat → Int32) → (Nat → Int32) → (Nat → Int32) → (Nat → Int32) → (Nat → Int32) → (Nat → Int32) → (Nat → Int32) → (Nat → Int32) → Prop} {kp : Nat → Bool} {kJ31 : Nat → Nat → Bool} {x1 : Nat} {x2 : Nat} {z0 : Nat} {z1 : Nat} {S0 : Nat} {A2 : Nat} {A3 : Nat} {A4 : Nat} {A6 : Nat} {S1 : Int32} {S2 : Int32} {A1 : Nat → Int32} {A5 : Nat → Int32} {A7 : Nat → Int32} {A8 : Nat → Int32} {A9 : Nat → Int32} {A10 : Nat → Int32} {A11 : Nat → Int32} {A12 : Nat → Int32} {A13 : Nat → Int32} {A14 : Nat → Int32} {A15 : Nat → Int32} {A16 : Nat → Int32} {A17 : Nat → Int32} {e_x1 : Int32} {e_x2 : Int32} {e_z0 : Int32} {e_z1 : Int32} (h : zb_X_findScores_59 kp kJ31 x1 x2 z0 z1 S0 A2 A3 A4 A6 = true) (q_x1 : e_x1 = nI x1) (q_x2 : e_x2 = nI x2) (q_z0 : e_z0 = nI z0) (q_z1 : e_z1 = nI z1) (hp : ∀ w8 : Nat, kp w8 = true → post ((nI S0), S1, S2, A1, (zq_g A2), (zq_g A3), (zq_g A4), A5, (zq_g w8), A7, A8, A9, A10, A11, A12, A13, A14, A15, A16, A17)) (hJ31 : ∀ y_x2 v8 : Nat, kJ31 y_x2 v8 = true → J31 (nI y_x2) A1 (zq_g A2) (zq_g A3) (zq_g A4) A5 (zq_g v8) A7 A8 A9 A10 A11 A12 A13 A14 A15 A16 A17) : wX_findScores_59 post J31 e_x1 e_x2 e_z0 e_z1 (nI S0) S1 S2 A1 (zq_g A2) (zq_g A3) (zq_g A4) A5 (zq_g A6) A7 A8 A9 A10 A11 A12 A13 A14 A15 A16 A17 := by
  subst q_x1; subst q_x2; subst q_z0; subst q_z1; have h : (zq_if (zq_in (zq_add z1 z0) (nat_lit 45))
        (zq_if (zq_in (zq_get A2 (zq_cl (zq_add z1 z0))) (nat_lit 5))
        (zq_if (zq_eq x1 (nat_lit 0))
        (zq_if (zq_in (zq_get A2 (zq_cl (zq_add z1 z0))) (nat_lit 5))
        (zq_fc (zq_set A6 (zq_cl (zq_get A2 (zq_cl (zq_add z1 z0)))) (zq_add (zq_get A6 (zq_cl (zq_get A2 (zq_cl (zq_add z1 z0))))) (nat_lit 1))) (fun a6_12 => zq_fc (zq_add x2 (nat_lit 1)) (fun x2_13 => kJ31 x2_13 a6_12))) false)
        (zq_if (zq_in (zq_get A2 (zq_cl (zq_add z1 z0))) (nat_lit 5))
        (zq_fc (zq_set A6 (zq_cl (zq_get A2 (zq_cl (zq_add z1 z0)))) (zq_add (zq_get A6 (zq_cl (zq_get A2 (zq_cl (zq_add z1 z0))))) (nat_lit 4294967295))) (fun a6_9 => zq_fc (zq_add x2 (nat_lit 1)) (fun x2_10 => kJ31 x2_10 a6_9))) false)) false) false) = true := h
  exact zq_vi h (zq_hadd rfl rfl) (by decide) (fun h => zq_vi h (zq_rd (zq_hadd rfl rfl)) (by decide) (fun h => zq_br h (zq_ceq rfl rfl)
        (fun h => zq_vi h (zq_rd (zq_hadd rfl rfl)) (by decide) (fun h => zq_up h (zq_rd (zq_hadd rfl rfl)) (zq_hadd (zq_rd (zq_rd (zq_hadd rfl rfl))) rfl) (fun a6_12 h => zq_ly h (zq_hadd rfl rfl) (fun x2_13 h => hJ31 _ _ h))))
        (fun h => zq_vi h (zq_rd (zq_hadd rfl rfl)) (by decide) (fun h => zq_up h (zq_rd (zq_hadd rfl rfl)) (zq_hadd (zq_rd (zq_rd (zq_hadd rfl rfl))) zq_m1) (fun a6_9 h => zq_ly h (zq_hadd rfl rfl) (fun x2_10 h => hJ31 _ _ h))))))
noncomputable def zb_X_findScores_31 (kp : Nat → Bool) (x1 : Nat) (S0 : Nat) (A2 : Nat) (A3 : Nat) (A4 : Nat) : Nat → Nat → Nat → Bool := fun fu => @Nat.rec (fun _ => Nat → Nat → Bool) (fun _ _ => false) (fun _ ih => fun x2 A6 =>
        zq_if (zq_le S0 x2)
        (kp A6)
        (zq_if (zq_eq x1 (nat_lit 0))
        (zq_fc (zq_mul (nat_lit 5) x2) (fun y1 => zb_X_findScores_59 kp ih x1 x2 (nat_lit 0) y1 S0 A2 A3 A4 A6))
        (zq_fc (zq_mul (nat_lit 5) x2) (fun y2 => zb_X_findScores_59 kp ih x1 x2 (nat_lit 4) y2 S0 A2 A3 A4 A6)))) fu
theorem zr_X_findScores_31 {post : St2 → Prop} {kp : Nat → Bool} {x1 : Nat} {S0 : Nat} {A2 : Nat} {A3 : Nat} {A4 : Nat} {S1 : Int32} {S2 : Int32} {A1 : Nat → Int32} {A5 : Nat → Int32} {A7 : Nat → Int32} {A8 : Nat → Int32} {A9 : Nat → Int32} {A10 : Nat → Int32} {A11 : Nat → Int32} {A12 : Nat → Int32} {A13 : Nat → Int32} {A14 : Nat → Int32} {A15 : Nat → Int32} {A16 : Nat → Int32} {A17 : Nat → Int32} (hp : ∀ w8 : Nat, kp w8 = true → post ((nI S0), S1, S2, A1, (zq_g A2), (zq_g A3), (zq_g A4), A5, (zq_g w8), A7, A8, A9, A10, A11, A12, A13, A14, A15, A16, A17)) (fu : Nat) : ∀ (x2 : Nat) (A6 : Nat) (e_x2 : Int32), zb_X_findScores_31 kp x1 S0 A2 A3 A4 fu x2 A6 = true → e_x2 = nI x2 → wX_findScores_31 post (nI x1) (nI S0) S1 S2 fu e_x2 A1 (zq_g A2) (zq_g A3) (zq_g A4) A5 (zq_g A6) A7 A8 A9 A10 A11 A12 A13 A14 A15 A16 A17 := by
  induction fu with
  | zero => intro x2 A6 e_x2 h q_x2; exact absurd h Bool.false_ne_true
  | succ n ih =>
    intro x2 A6 e_x2 h q_x2
    subst q_x2; have h : (zq_if (zq_le S0 x2)
        (kp A6)
        (zq_if (zq_eq x1 (nat_lit 0))
        (zq_fc (zq_mul (nat_lit 5) x2) (fun y1 => zb_X_findScores_59 kp (zb_X_findScores_31 kp x1 S0 A2 A3 A4 n) x1 x2 (nat_lit 0) y1 S0 A2 A3 A4 A6))
        (zq_fc (zq_mul (nat_lit 5) x2) (fun y2 => zb_X_findScores_59 kp (zb_X_findScores_31 kp x1 S0 A2 A3 A4 n) x1 x2 (nat_lit 4) y2 S0 A2 A3 A4 A6)))) = true := h
    exact zq_br h (zq_cle rfl rfl)
        (fun h => hp _ h)
        (fun h => zq_br h (zq_ceq rfl rfl)
        (fun h => have h := zq_fe h; zs_X_findScores_59 h rfl rfl rfl (zq_hmul rfl rfl) hp (fun y0 y1 h => ih y0 y1 _ h rfl))
        (fun h => have h := zq_fe h; zs_X_findScores_59 h rfl rfl rfl (zq_hmul rfl rfl) hp (fun y0 y1 h => ih y0 y1 _ h rfl)))
theorem zs_X_findScores_31 {post : St2 → Prop} {kp : Nat → Bool} {x1 : Nat} {S0 : Nat} {A2 : Nat} {A3 : Nat} {A4 : Nat} {x2 : Nat} {A6 : Nat} {S1 : Int32} {S2 : Int32} {A1 : Nat → Int32} {A5 : Nat → Int32} {A7 : Nat → Int32} {A8 : Nat → Int32} {A9 : Nat → Int32} {A10 : Nat → Int32} {A11 : Nat → Int32} {A12 : Nat → Int32} {A13 : Nat → Int32} {A14 : Nat → Int32} {A15 : Nat → Int32} {A16 : Nat → Int32} {A17 : Nat → Int32} {e_x1 : Int32} {e_x2 : Int32} {fu : Nat} (h : zb_X_findScores_31 kp x1 S0 A2 A3 A4 fu x2 A6 = true) (q_x1 : e_x1 = nI x1) (q_x2 : e_x2 = nI x2) (hp : ∀ w8 : Nat, kp w8 = true → post ((nI S0), S1, S2, A1, (zq_g A2), (zq_g A3), (zq_g A4), A5, (zq_g w8), A7, A8, A9, A10, A11, A12, A13, A14, A15, A16, A17)) : wX_findScores_31 post e_x1 (nI S0) S1 S2 fu e_x2 A1 (zq_g A2) (zq_g A3) (zq_g A4) A5 (zq_g A6) A7 A8 A9 A10 A11 A12 A13 A14 A15 A16 A17 := by
  subst q_x1; exact zr_X_findScores_31 hp fu _ _ _ h q_x2
noncomputable def zb_X_findScores_123 (kp : Nat → Bool) (x1 : Nat) (S0 : Nat) (A2 : Nat) (A3 : Nat) (A4 : Nat) : Nat → Nat → Nat → Bool := fun fu => @Nat.rec (fun _ => Nat → Nat → Bool) (fun _ _ => false) (fun _ ih => fun x2 A6 =>
        zq_if (zq_le (nat_lit 5) x2)
        (kp A6)
        (zq_if (zq_eq x1 (nat_lit 2))
        (zb_X_pointsOf (fun r_27 => zq_if (zq_in x2 (nat_lit 5))
        (zq_fc (zq_set A6 (zq_cl x2) r_27) (fun a6_29 => zq_fc (zq_add x2 (nat_lit 1)) (fun x2_30 => ih x2_30 a6_29))) false) x2 (nat_lit 31) A3)
        (zq_if (zq_eq x1 (nat_lit 3))
        (zb_X_copeland (fun r_23 => zq_if (zq_in x2 (nat_lit 5))
        (zq_fc (zq_set A6 (zq_cl x2) r_23) (fun a6_25 => zq_fc (zq_add x2 (nat_lit 1)) (fun x2_26 => ih x2_26 a6_25))) false) x2 A4)
        (zb_X_smallestMargin (fun r_19 => zq_if (zq_in x2 (nat_lit 5))
        (zq_fc (zq_set A6 (zq_cl x2) r_19) (fun a6_21 => zq_fc (zq_add x2 (nat_lit 1)) (fun x2_22 => ih x2_22 a6_21))) false) x2 A4)))) fu
theorem zr_X_findScores_123 {post : St2 → Prop} {kp : Nat → Bool} {x1 : Nat} {S0 : Nat} {A2 : Nat} {A3 : Nat} {A4 : Nat} {S1 : Int32} {S2 : Int32} {A1 : Nat → Int32} {A5 : Nat → Int32} {A7 : Nat → Int32} {A8 : Nat → Int32} {A9 : Nat → Int32} {A10 : Nat → Int32} {A11 : Nat → Int32} {A12 : Nat → Int32} {A13 : Nat → Int32} {A14 : Nat → Int32} {A15 : Nat → Int32} {A16 : Nat → Int32} {A17 : Nat → Int32} (hp : ∀ w8 : Nat, kp w8 = true → post ((nI S0), S1, S2, A1, (zq_g A2), (zq_g A3), (zq_g A4), A5, (zq_g w8), A7, A8, A9, A10, A11, A12, A13, A14, A15, A16, A17)) (fu : Nat) : ∀ (x2 : Nat) (A6 : Nat) (e_x2 : Int32), zb_X_findScores_123 kp x1 S0 A2 A3 A4 fu x2 A6 = true → e_x2 = nI x2 → wX_findScores_123 post (nI x1) (nI S0) S1 S2 fu e_x2 A1 (zq_g A2) (zq_g A3) (zq_g A4) A5 (zq_g A6) A7 A8 A9 A10 A11 A12 A13 A14 A15 A16 A17 := by
  induction fu with
  | zero => intro x2 A6 e_x2 h q_x2; exact absurd h Bool.false_ne_true
  | succ n ih =>
    intro x2 A6 e_x2 h q_x2
    subst q_x2; have h : (zq_if (zq_le (nat_lit 5) x2)
        (kp A6)
        (zq_if (zq_eq x1 (nat_lit 2))
        (zb_X_pointsOf (fun r_27 => zq_if (zq_in x2 (nat_lit 5))
        (zq_fc (zq_set A6 (zq_cl x2) r_27) (fun a6_29 => zq_fc (zq_add x2 (nat_lit 1)) (fun x2_30 => (zb_X_findScores_123 kp x1 S0 A2 A3 A4 n) x2_30 a6_29))) false) x2 (nat_lit 31) A3)
        (zq_if (zq_eq x1 (nat_lit 3))
        (zb_X_copeland (fun r_23 => zq_if (zq_in x2 (nat_lit 5))
        (zq_fc (zq_set A6 (zq_cl x2) r_23) (fun a6_25 => zq_fc (zq_add x2 (nat_lit 1)) (fun x2_26 => (zb_X_findScores_123 kp x1 S0 A2 A3 A4 n) x2_26 a6_25))) false) x2 A4)
        (zb_X_smallestMargin (fun r_19 => zq_if (zq_in x2 (nat_lit 5))
        (zq_fc (zq_set A6 (zq_cl x2) r_19) (fun a6_21 => zq_fc (zq_add x2 (nat_lit 1)) (fun x2_22 => (zb_X_findScores_123 kp x1 S0 A2 A3 A4 n) x2_22 a6_21))) false) x2 A4)))) = true := h
    exact zq_br h (zq_cle rfl rfl)
        (fun h => hp _ h)
        (fun h => zq_br h (zq_ceq rfl rfl)
        (fun h => zs_X_pointsOf h rfl rfl (fun r_27 h => zq_vi h rfl (by decide) (fun h => zq_up h rfl rfl (fun a6_29 h => zq_ly h (zq_hadd rfl rfl) (fun x2_30 h => ih _ _ _ h rfl)))))
        (fun h => zq_br h (zq_ceq rfl rfl)
        (fun h => zs_X_copeland h rfl (fun r_23 h => zq_vi h rfl (by decide) (fun h => zq_up h rfl rfl (fun a6_25 h => zq_ly h (zq_hadd rfl rfl) (fun x2_26 h => ih _ _ _ h rfl)))))
        (fun h => zs_X_smallestMargin h rfl (fun r_19 h => zq_vi h rfl (by decide) (fun h => zq_up h rfl rfl (fun a6_21 h => zq_ly h (zq_hadd rfl rfl) (fun x2_22 h => ih _ _ _ h rfl)))))))
theorem zs_X_findScores_123 {post : St2 → Prop} {kp : Nat → Bool} {x1 : Nat} {S0 : Nat} {A2 : Nat} {A3 : Nat} {A4 : Nat} {x2 : Nat} {A6 : Nat} {S1 : Int32} {S2 : Int32} {A1 : Nat → Int32} {A5 : Nat → Int32} {A7 : Nat → Int32} {A8 : Nat → Int32} {A9 : Nat → Int32} {A10 : Nat → Int32} {A11 : Nat → Int32} {A12 : Nat → Int32} {A13 : Nat → Int32} {A14 : Nat → Int32} {A15 : Nat → Int32} {A16 : Nat → Int32} {A17 : Nat → Int32} {e_x1 : Int32} {e_x2 : Int32} {fu : Nat} (h : zb_X_findScores_123 kp x1 S0 A2 A3 A4 fu x2 A6 = true) (q_x1 : e_x1 = nI x1) (q_x2 : e_x2 = nI x2) (hp : ∀ w8 : Nat, kp w8 = true → post ((nI S0), S1, S2, A1, (zq_g A2), (zq_g A3), (zq_g A4), A5, (zq_g w8), A7, A8, A9, A10, A11, A12, A13, A14, A15, A16, A17)) : wX_findScores_123 post e_x1 (nI S0) S1 S2 fu e_x2 A1 (zq_g A2) (zq_g A3) (zq_g A4) A5 (zq_g A6) A7 A8 A9 A10 A11 A12 A13 A14 A15 A16 A17 := by
  subst q_x1; exact zr_X_findScores_123 hp fu _ _ _ h q_x2
noncomputable def zb_X_findScores_95 (kp : Nat → Bool) (S0 : Nat) (A2 : Nat) (A3 : Nat) (A4 : Nat) : Nat → Nat → Nat → Bool := fun fu => @Nat.rec (fun _ => Nat → Nat → Bool) (fun _ _ => false) (fun _ ih => fun x2 A6 =>
        zq_if (zq_le (nat_lit 5) x2)
        (kp A6)
        (zb_X_hasHalf (fun r_87 => zq_if (zq_eq r_87 (nat_lit 0))
        (zq_fc (zq_add x2 (nat_lit 1)) (fun x2_89 => zb_X_countAmongFirst (fun am1126_111 => ih x2_89 am1126_111) x2_89 S0 A2 A6))
        (kp A6)) S0 A6)) fu
theorem zr_X_findScores_95 {post : St2 → Prop} {kp : Nat → Bool} {S0 : Nat} {A2 : Nat} {A3 : Nat} {A4 : Nat} {S1 : Int32} {S2 : Int32} {A1 : Nat → Int32} {A5 : Nat → Int32} {A7 : Nat → Int32} {A8 : Nat → Int32} {A9 : Nat → Int32} {A10 : Nat → Int32} {A11 : Nat → Int32} {A12 : Nat → Int32} {A13 : Nat → Int32} {A14 : Nat → Int32} {A15 : Nat → Int32} {A16 : Nat → Int32} {A17 : Nat → Int32} (hp : ∀ w8 : Nat, kp w8 = true → post ((nI S0), S1, S2, A1, (zq_g A2), (zq_g A3), (zq_g A4), A5, (zq_g w8), A7, A8, A9, A10, A11, A12, A13, A14, A15, A16, A17)) (fu : Nat) : ∀ (x2 : Nat) (A6 : Nat) (e_x2 : Int32), zb_X_findScores_95 kp S0 A2 A3 A4 fu x2 A6 = true → e_x2 = nI x2 → wX_findScores_95 post fu e_x2 (nI S0) S1 S2 A1 (zq_g A2) (zq_g A3) (zq_g A4) A5 (zq_g A6) A7 A8 A9 A10 A11 A12 A13 A14 A15 A16 A17 := by
  induction fu with
  | zero => intro x2 A6 e_x2 h q_x2; exact absurd h Bool.false_ne_true
  | succ n ih =>
    intro x2 A6 e_x2 h q_x2
    subst q_x2; have h : (zq_if (zq_le (nat_lit 5) x2)
        (kp A6)
        (zb_X_hasHalf (fun r_87 => zq_if (zq_eq r_87 (nat_lit 0))
        (zq_fc (zq_add x2 (nat_lit 1)) (fun x2_89 => zb_X_countAmongFirst (fun am1126_111 => (zb_X_findScores_95 kp S0 A2 A3 A4 n) x2_89 am1126_111) x2_89 S0 A2 A6))
        (kp A6)) S0 A6)) = true := h
    exact zq_br h (zq_cle rfl rfl)
        (fun h => hp _ h)
        (fun h => zs_X_hasHalf h (fun r_87 h => zq_br h (zq_ceq rfl rfl)
        (fun h => zq_ly h (zq_hadd rfl rfl) (fun x2_89 h => zs_X_countAmongFirst h rfl (fun am1126_111 h => ih _ _ _ h rfl)))
        (fun h => hp _ h)))
theorem zs_X_findScores_95 {post : St2 → Prop} {kp : Nat → Bool} {S0 : Nat} {A2 : Nat} {A3 : Nat} {A4 : Nat} {x2 : Nat} {A6 : Nat} {S1 : Int32} {S2 : Int32} {A1 : Nat → Int32} {A5 : Nat → Int32} {A7 : Nat → Int32} {A8 : Nat → Int32} {A9 : Nat → Int32} {A10 : Nat → Int32} {A11 : Nat → Int32} {A12 : Nat → Int32} {A13 : Nat → Int32} {A14 : Nat → Int32} {A15 : Nat → Int32} {A16 : Nat → Int32} {A17 : Nat → Int32} {e_x2 : Int32} {fu : Nat} (h : zb_X_findScores_95 kp S0 A2 A3 A4 fu x2 A6 = true) (q_x2 : e_x2 = nI x2) (hp : ∀ w8 : Nat, kp w8 = true → post ((nI S0), S1, S2, A1, (zq_g A2), (zq_g A3), (zq_g A4), A5, (zq_g w8), A7, A8, A9, A10, A11, A12, A13, A14, A15, A16, A17)) : wX_findScores_95 post fu e_x2 (nI S0) S1 S2 A1 (zq_g A2) (zq_g A3) (zq_g A4) A5 (zq_g A6) A7 A8 A9 A10 A11 A12 A13 A14 A15 A16 A17 := by
  exact zr_X_findScores_95 hp fu _ _ _ h q_x2
noncomputable def zb_X_findScores_2 (kp : Nat → Bool) (x1 : Nat) (S0 : Nat) (A2 : Nat) (A3 : Nat) (A4 : Nat) : Nat → Nat → Nat → Bool := fun fu => @Nat.rec (fun _ => Nat → Nat → Bool) (fun _ _ => false) (fun _ ih => fun x2 A6 =>
        zq_if (zq_le (nat_lit 5) x2)
        (zq_if (zq_eq x1 (nat_lit 0))
        (zb_X_findScores_31 kp x1 S0 A2 A3 A4 40 (nat_lit 0) A6)
        (zq_if (zq_eq x1 (nat_lit 1))
        (zb_X_findScores_31 kp x1 S0 A2 A3 A4 40 (nat_lit 0) A6)
        (zq_if (zq_eq x1 (nat_lit 5))
        (zb_X_countAmongFirst (fun am926_52 => zb_X_findScores_95 kp S0 A2 A3 A4 40 (nat_lit 1) am926_52) (nat_lit 1) S0 A2 A6)
        (zb_X_findScores_123 kp x1 S0 A2 A3 A4 40 (nat_lit 0) A6))))
        (zq_if (zq_in x2 (nat_lit 5))
        (zq_fc (zq_set A6 (zq_cl x2) (nat_lit 0)) (fun a6_146 => zq_fc (zq_add x2 (nat_lit 1)) (fun x2_147 => ih x2_147 a6_146))) false)) fu
theorem zr_X_findScores_2 {post : St2 → Prop} {kp : Nat → Bool} {x1 : Nat} {S0 : Nat} {A2 : Nat} {A3 : Nat} {A4 : Nat} {S1 : Int32} {S2 : Int32} {A1 : Nat → Int32} {A5 : Nat → Int32} {A7 : Nat → Int32} {A8 : Nat → Int32} {A9 : Nat → Int32} {A10 : Nat → Int32} {A11 : Nat → Int32} {A12 : Nat → Int32} {A13 : Nat → Int32} {A14 : Nat → Int32} {A15 : Nat → Int32} {A16 : Nat → Int32} {A17 : Nat → Int32} (hp : ∀ w8 : Nat, kp w8 = true → post ((nI S0), S1, S2, A1, (zq_g A2), (zq_g A3), (zq_g A4), A5, (zq_g w8), A7, A8, A9, A10, A11, A12, A13, A14, A15, A16, A17)) (fu : Nat) : ∀ (x2 : Nat) (A6 : Nat) (e_x2 : Int32), zb_X_findScores_2 kp x1 S0 A2 A3 A4 fu x2 A6 = true → e_x2 = nI x2 → wX_findScores_2 post (nI x1) (nI S0) S1 S2 fu e_x2 A1 (zq_g A2) (zq_g A3) (zq_g A4) A5 (zq_g A6) A7 A8 A9 A10 A11 A12 A13 A14 A15 A16 A17 := by
  induction fu with
  | zero => intro x2 A6 e_x2 h q_x2; exact absurd h Bool.false_ne_true
  | succ n ih =>
    intro x2 A6 e_x2 h q_x2
    subst q_x2; have h : (zq_if (zq_le (nat_lit 5) x2)
        (zq_if (zq_eq x1 (nat_lit 0))
        (zb_X_findScores_31 kp x1 S0 A2 A3 A4 40 (nat_lit 0) A6)
        (zq_if (zq_eq x1 (nat_lit 1))
        (zb_X_findScores_31 kp x1 S0 A2 A3 A4 40 (nat_lit 0) A6)
        (zq_if (zq_eq x1 (nat_lit 5))
        (zb_X_countAmongFirst (fun am926_52 => zb_X_findScores_95 kp S0 A2 A3 A4 40 (nat_lit 1) am926_52) (nat_lit 1) S0 A2 A6)
        (zb_X_findScores_123 kp x1 S0 A2 A3 A4 40 (nat_lit 0) A6))))
        (zq_if (zq_in x2 (nat_lit 5))
        (zq_fc (zq_set A6 (zq_cl x2) (nat_lit 0)) (fun a6_146 => zq_fc (zq_add x2 (nat_lit 1)) (fun x2_147 => (zb_X_findScores_2 kp x1 S0 A2 A3 A4 n) x2_147 a6_146))) false)) = true := h
    exact zq_br h (zq_cle rfl rfl)
        (fun h => zq_br h (zq_ceq rfl rfl)
        (fun h => Exists.intro 40 (zs_X_findScores_31 h rfl rfl hp))
        (fun h => zq_br h (zq_ceq rfl rfl)
        (fun h => Exists.intro 40 (zs_X_findScores_31 h rfl rfl hp))
        (fun h => zq_br h (zq_ceq rfl rfl)
        (fun h => zs_X_countAmongFirst h rfl (fun am926_52 h => Exists.intro 40 (zs_X_findScores_95 h rfl hp)))
        (fun h => Exists.intro 40 (zs_X_findScores_123 h rfl rfl hp)))))
        (fun h => zq_vi h rfl (by decide) (fun h => zq_up h rfl rfl (fun a6_146 h => zq_ly h (zq_hadd rfl rfl) (fun x2_147 h => ih _ _ _ h rfl))))
theorem zs_X_findScores_2 {post : St2 → Prop} {kp : Nat → Bool} {x1 : Nat} {S0 : Nat} {A2 : Nat} {A3 : Nat} {A4 : Nat} {x2 : Nat} {A6 : Nat} {S1 : Int32} {S2 : Int32} {A1 : Nat → Int32} {A5 : Nat → Int32} {A7 : Nat → Int32} {A8 : Nat → Int32} {A9 : Nat → Int32} {A10 : Nat → Int32} {A11 : Nat → Int32} {A12 : Nat → Int32} {A13 : Nat → Int32} {A14 : Nat → Int32} {A15 : Nat → Int32} {A16 : Nat → Int32} {A17 : Nat → Int32} {e_x1 : Int32} {e_x2 : Int32} {fu : Nat} (h : zb_X_findScores_2 kp x1 S0 A2 A3 A4 fu x2 A6 = true) (q_x1 : e_x1 = nI x1) (q_x2 : e_x2 = nI x2) (hp : ∀ w8 : Nat, kp w8 = true → post ((nI S0), S1, S2, A1, (zq_g A2), (zq_g A3), (zq_g A4), A5, (zq_g w8), A7, A8, A9, A10, A11, A12, A13, A14, A15, A16, A17)) : wX_findScores_2 post e_x1 (nI S0) S1 S2 fu e_x2 A1 (zq_g A2) (zq_g A3) (zq_g A4) A5 (zq_g A6) A7 A8 A9 A10 A11 A12 A13 A14 A15 A16 A17 := by
  subst q_x1; exact zr_X_findScores_2 hp fu _ _ _ h q_x2
noncomputable def zb_X_findScores (kp : Nat → Bool) (p0 : Nat) (S0 : Nat) (A2 : Nat) (A3 : Nat) (A4 : Nat) (A6 : Nat) : Bool :=
        zb_X_findScores_2 kp p0 S0 A2 A3 A4 40 (nat_lit 0) A6
theorem zs_X_findScores {post : St2 → Prop} {kp : Nat → Bool} {p0 : Nat} {S0 : Nat} {A2 : Nat} {A3 : Nat} {A4 : Nat} {A6 : Nat} {S1 : Int32} {S2 : Int32} {A1 : Nat → Int32} {A5 : Nat → Int32} {A7 : Nat → Int32} {A8 : Nat → Int32} {A9 : Nat → Int32} {A10 : Nat → Int32} {A11 : Nat → Int32} {A12 : Nat → Int32} {A13 : Nat → Int32} {A14 : Nat → Int32} {A15 : Nat → Int32} {A16 : Nat → Int32} {A17 : Nat → Int32} {e_p0 : Int32} (h : zb_X_findScores kp p0 S0 A2 A3 A4 A6 = true) (q_p0 : e_p0 = nI p0) (hp : ∀ w8 : Nat, kp w8 = true → post ((nI S0), S1, S2, A1, (zq_g A2), (zq_g A3), (zq_g A4), A5, (zq_g w8), A7, A8, A9, A10, A11, A12, A13, A14, A15, A16, A17)) : wpX_findScores post ((nI S0), S1, S2, A1, (zq_g A2), (zq_g A3), (zq_g A4), A5, (zq_g A6), A7, A8, A9, A10, A11, A12, A13, A14, A15, A16, A17) e_p0 := by
  subst q_p0; have h : (zb_X_findScores_2 kp p0 S0 A2 A3 A4 40 (nat_lit 0) A6) = true := h
  exact Exists.intro 40 (zs_X_findScores_2 h rfl rfl hp)
noncomputable def zb_X_greatestScores_33 (kp : Nat → Nat → Bool) (kJ14 : Nat → Nat → Nat → Bool) (x2 : Nat) (x3 : Nat) (x4 : Nat) (S0 : Nat) (A2 : Nat) (A3 : Nat) (A4 : Nat) (A6 : Nat) : Bool :=
        zq_if (zq_in x4 (nat_lit 5))
        (zq_if (zq_lt (zq_get A6 (zq_cl x4)) x3)
        (zq_fc (zq_add x4 (nat_lit 1)) (fun x4_61 => kJ14 x2 x3 x4_61))
        (zq_if (zq_in x4 (nat_lit 5))
        (zq_fc (zq_get A6 (zq_cl x4)) (fun x3_63 => zq_fc (zq_or x2 (zq_shl (nat_lit 1) x4)) (fun x2_64 => zq_fc (zq_add x4 (nat_lit 1)) (fun x4_65 => kJ14 x2_64 x3_63 x4_65)))) false)) false
theorem zs_X_greatestScores_33 {post : Int32 → St2 → Prop} {J14 : Int32 → Int32 → Int32 → Prop} {kp : Nat → Nat → Bool} {kJ14 : Nat → Nat → Nat → Bool} {x2 : Nat} {x3 : Nat} {x4 : Nat} {S0 : Nat} {A2 : Nat} {A3 : Nat} {A4 : Nat} {A6 : Nat} {S1 : Int32} {S2 : Int32} {A1 : Nat → Int32} {A5 : Nat → Int32} {A7 : Nat → Int32} {A8 : Nat → Int32} {A9 : Nat → Int32} {A10 : Nat → Int32} {A11 : Nat → Int32} {A12 : Nat → Int32} {A13 : Nat → Int32} {A14 : Nat → Int32} {A15 : Nat → Int32} {A16 : Nat → Int32} {A17 : Nat → Int32} {e_x2 : Int32} {e_x3 : Int32} {e_x4 : Int32} (h : zb_X_greatestScores_33 kp kJ14 x2 x3 x4 S0 A2 A3 A4 A6 = true) (q_x2 : e_x2 = nI x2) (q_x3 : e_x3 = nI x3) (q_x4 : e_x4 = nI x4) (hp : ∀ r w8 : Nat, kp r w8 = true → post (nI r) ((nI S0), S1, S2, A1, (zq_g A2), (zq_g A3), (zq_g A4), A5, (zq_g w8), A7, A8, A9, A10, A11, A12, A13, A14, A15, A16, A17)) (hJ14 : ∀ y_x2 y_x3 y_x4 : Nat, kJ14 y_x2 y_x3 y_x4 = true → J14 (nI y_x2) (nI y_x3) (nI y_x4)) : wX_greatestScores_33 post J14 e_x2 e_x3 e_x4 (nI S0) S1 S2 A1 (zq_g A2) (zq_g A3) (zq_g A4) A5 (zq_g A6) A7 A8 A9 A10 A11 A12 A13 A14 A15 A16 A17 := by
  subst q_x2; subst q_x3; subst q_x4; have h : (zq_if (zq_in x4 (nat_lit 5))
        (zq_if (zq_lt (zq_get A6 (zq_cl x4)) x3)
        (zq_fc (zq_add x4 (nat_lit 1)) (fun x4_61 => kJ14 x2 x3 x4_61))
        (zq_if (zq_in x4 (nat_lit 5))
        (zq_fc (zq_get A6 (zq_cl x4)) (fun x3_63 => zq_fc (zq_or x2 (zq_shl (nat_lit 1) x4)) (fun x2_64 => zq_fc (zq_add x4 (nat_lit 1)) (fun x4_65 => kJ14 x2_64 x3_63 x4_65)))) false)) false) = true := h
  exact zq_vi h rfl (by decide) (fun h => zq_br h (zq_clt (zq_rd rfl) rfl)
        (fun h => zq_ly h (zq_hadd rfl rfl) (fun x4_61 h => hJ14 _ _ _ h))
        (fun h => zq_vi h rfl (by decide) (fun h => zq_ly h (zq_rd rfl) (fun x3_63 h => zq_ly h (zq_hor rfl (zq_hshl rfl rfl)) (fun x2_64 h => zq_ly h (zq_hadd rfl rfl) (fun x4_65 h => hJ14 _ _ _ h))))))
noncomputable def zb_X_greatestScores_14 (kp : Nat → Nat → Bool) (S0 : Nat) (A2 : Nat) (A3 : Nat) (A4 : Nat) (A6 : Nat) : Nat → Nat → Nat → Nat → Bool := fun fu => @Nat.rec (fun _ => Nat → Nat → Nat → Bool) (fun _ _ _ => false) (fun _ ih => fun x2 x3 x4 =>
        zq_if (zq_le (nat_lit 5) x4)
        (kp x2 A6)
        (zq_if (zq_in x4 (nat_lit 5))
        (zq_if (zq_le (zq_get A6 (zq_cl x4)) x3)
        (zb_X_greatestScores_33 kp ih x2 x3 x4 S0 A2 A3 A4 A6)
        (zb_X_greatestScores_33 kp ih (nat_lit 0) x3 x4 S0 A2 A3 A4 A6)) false)) fu
theorem zr_X_greatestScores_14 {post : Int32 → St2 → Prop} {kp : Nat → Nat → Bool} {S0 : Nat} {A2 : Nat} {A3 : Nat} {A4 : Nat} {A6 : Nat} {S1 : Int32} {S2 : Int32} {A1 : Nat → Int32} {A5 : Nat → Int32} {A7 : Nat → Int32} {A8 : Nat → Int32} {A9 : Nat → Int32} {A10 : Nat → Int32} {A11 : Nat → Int32} {A12 : Nat → Int32} {A13 : Nat → Int32} {A14 : Nat → Int32} {A15 : Nat → Int32} {A16 : Nat → Int32} {A17 : Nat → Int32} (hp : ∀ r w8 : Nat, kp r w8 = true → post (nI r) ((nI S0), S1, S2, A1, (zq_g A2), (zq_g A3), (zq_g A4), A5, (zq_g w8), A7, A8, A9, A10, A11, A12, A13, A14, A15, A16, A17)) (fu : Nat) : ∀ (x2 : Nat) (x3 : Nat) (x4 : Nat) (e_x2 : Int32) (e_x3 : Int32) (e_x4 : Int32), zb_X_greatestScores_14 kp S0 A2 A3 A4 A6 fu x2 x3 x4 = true → e_x2 = nI x2 → e_x3 = nI x3 → e_x4 = nI x4 → wX_greatestScores_14 post (nI S0) S1 S2 A1 (zq_g A2) (zq_g A3) (zq_g A4) A5 (zq_g A6) A7 A8 A9 A10 A11 A12 A13 A14 A15 A16 A17 fu e_x2 e_x3 e_x4 := by
  induction fu with
  | zero => intro x2 x3 x4 e_x2 e_x3 e_x4 h q_x2 q_x3 q_x4; exact absurd h Bool.false_ne_true
  | succ n ih =>
    intro x2 x3 x4 e_x2 e_x3 e_x4 h q_x2 q_x3 q_x4
    subst q_x2; subst q_x3; subst q_x4; have h : (zq_if (zq_le (nat_lit 5) x4)
        (kp x2 A6)
        (zq_if (zq_in x4 (nat_lit 5))
        (zq_if (zq_le (zq_get A6 (zq_cl x4)) x3)
        (zb_X_greatestScores_33 kp (zb_X_greatestScores_14 kp S0 A2 A3 A4 A6 n) x2 x3 x4 S0 A2 A3 A4 A6)
        (zb_X_greatestScores_33 kp (zb_X_greatestScores_14 kp S0 A2 A3 A4 A6 n) (nat_lit 0) x3 x4 S0 A2 A3 A4 A6)) false)) = true := h
    exact zq_br h (zq_cle rfl rfl)
        (fun h => hp _ _ h)
        (fun h => zq_vi h rfl (by decide) (fun h => zq_br h (zq_cle (zq_rd rfl) rfl)
        (fun h => zs_X_greatestScores_33 h rfl rfl rfl hp (fun y0 y1 y2 h => ih y0 y1 y2 _ _ _ h rfl rfl rfl))
        (fun h => zs_X_greatestScores_33 h rfl rfl rfl hp (fun y0 y1 y2 h => ih y0 y1 y2 _ _ _ h rfl rfl rfl))))
theorem zs_X_greatestScores_14 {post : Int32 → St2 → Prop} {kp : Nat → Nat → Bool} {S0 : Nat} {A2 : Nat} {A3 : Nat} {A4 : Nat} {A6 : Nat} {x2 : Nat} {x3 : Nat} {x4 : Nat} {S1 : Int32} {S2 : Int32} {A1 : Nat → Int32} {A5 : Nat → Int32} {A7 : Nat → Int32} {A8 : Nat → Int32} {A9 : Nat → Int32} {A10 : Nat → Int32} {A11 : Nat → Int32} {A12 : Nat → Int32} {A13 : Nat → Int32} {A14 : Nat → Int32} {A15 : Nat → Int32} {A16 : Nat → Int32} {A17 : Nat → Int32} {e_x2 : Int32} {e_x3 : Int32} {e_x4 : Int32} {fu : Nat} (h : zb_X_greatestScores_14 kp S0 A2 A3 A4 A6 fu x2 x3 x4 = true) (q_x2 : e_x2 = nI x2) (q_x3 : e_x3 = nI x3) (q_x4 : e_x4 = nI x4) (hp : ∀ r w8 : Nat, kp r w8 = true → post (nI r) ((nI S0), S1, S2, A1, (zq_g A2), (zq_g A3), (zq_g A4), A5, (zq_g w8), A7, A8, A9, A10, A11, A12, A13, A14, A15, A16, A17)) : wX_greatestScores_14 post (nI S0) S1 S2 A1 (zq_g A2) (zq_g A3) (zq_g A4) A5 (zq_g A6) A7 A8 A9 A10 A11 A12 A13 A14 A15 A16 A17 fu e_x2 e_x3 e_x4 := by
  exact zr_X_greatestScores_14 hp fu _ _ _ _ _ _ h q_x2 q_x3 q_x4
noncomputable def zb_X_greatestScores (kp : Nat → Nat → Bool) (p0 : Nat) (S0 : Nat) (A2 : Nat) (A3 : Nat) (A4 : Nat) (A6 : Nat) : Bool :=
        zb_X_findScores (fun am26_22 => zb_X_greatestScores_14 kp S0 A2 A3 A4 am26_22 40 (nat_lit 0) (nat_lit 4294966296) (nat_lit 0)) p0 S0 A2 A3 A4 A6
theorem zs_X_greatestScores {post : Int32 → St2 → Prop} {kp : Nat → Nat → Bool} {p0 : Nat} {S0 : Nat} {A2 : Nat} {A3 : Nat} {A4 : Nat} {A6 : Nat} {S1 : Int32} {S2 : Int32} {A1 : Nat → Int32} {A5 : Nat → Int32} {A7 : Nat → Int32} {A8 : Nat → Int32} {A9 : Nat → Int32} {A10 : Nat → Int32} {A11 : Nat → Int32} {A12 : Nat → Int32} {A13 : Nat → Int32} {A14 : Nat → Int32} {A15 : Nat → Int32} {A16 : Nat → Int32} {A17 : Nat → Int32} {e_p0 : Int32} (h : zb_X_greatestScores kp p0 S0 A2 A3 A4 A6 = true) (q_p0 : e_p0 = nI p0) (hp : ∀ r w8 : Nat, kp r w8 = true → post (nI r) ((nI S0), S1, S2, A1, (zq_g A2), (zq_g A3), (zq_g A4), A5, (zq_g w8), A7, A8, A9, A10, A11, A12, A13, A14, A15, A16, A17)) : wpX_greatestScores post ((nI S0), S1, S2, A1, (zq_g A2), (zq_g A3), (zq_g A4), A5, (zq_g A6), A7, A8, A9, A10, A11, A12, A13, A14, A15, A16, A17) e_p0 := by
  subst q_p0; have h : (zb_X_findScores (fun am26_22 => zb_X_greatestScores_14 kp S0 A2 A3 A4 am26_22 40 (nat_lit 0) (nat_lit 4294966296) (nat_lit 0)) p0 S0 A2 A3 A4 A6) = true := h
  exact zs_X_findScores h rfl (fun am26_22 h => Exists.intro 40 (zs_X_greatestScores_14 h rfl zq_m1000 rfl hp))
end
section
/-! printed by gen.py: wpX_winnersBy .. wpX_removals -/
noncomputable def zb_X_winnersBy (kp : Nat → Nat → Nat → Nat → Nat → Nat → Nat → Nat → Nat → Nat → Nat → Nat → Nat → Nat → Nat → Nat → Nat → Nat → Bool) (p0 : Nat) (S0 : Nat) (S1 : Nat) (S2 : Nat) (A2 : Nat) (A3 : Nat) (A4 : Nat) (A5 : Nat) (A6 : Nat) (A7 : Nat) (A8 : Nat) (A9 : Nat) (A10 : Nat) (A11 : Nat) (A12 : Nat) (A13 : Nat) (A14 : Nat) (A15 : Nat) (A16 : Nat) (A17 : Nat) : Bool :=
        zb_X_countAll (fun f0_counted_3 am13_13 am14_16 am15_19 => zq_if (zq_le (nat_lit 6) p0)
        (zq_if (zq_le (nat_lit 9) p0)
        (zq_if (zq_eq p0 (nat_lit 9))
        (zb_X_byStrength (fun r_232 am358_259 => kp r_232 f0_counted_3 S2 am13_13 am14_16 am15_19 A6 A7 am358_259 A9 A10 A11 A12 A13 A14 A15 A16 A17) am14_16 A8)
        (zq_if (zq_eq p0 (nat_lit 10))
        (zb_X_byCouples (fun r_177 f0_coupleCount_180 am469_207 am4610_210 am4611_213 am4612_216 am4613_219 => kp r_177 f0_counted_3 f0_coupleCount_180 am13_13 am14_16 am15_19 A6 A7 A8 am469_207 am4610_210 am4611_213 am4612_216 am4613_219 A14 A15 A16 A17) S2 am14_16 A9 A10 A11 A12 A13)
        (zq_if (zq_eq p0 (nat_lit 11))
        (zb_X_smallestSet (fun r_176 => kp r_176 f0_counted_3 S2 am13_13 am14_16 am15_19 A6 A7 A8 A9 A10 A11 A12 A13 A14 A15 A16 A17) am15_19)
        (zq_if (zq_eq p0 (nat_lit 12))
        (zb_X_unreturned (fun r_121 am689_151 => kp r_121 f0_counted_3 S2 am13_13 am14_16 am15_19 A6 A7 A8 am689_151 A10 A11 A12 A13 A14 A15 A16 A17) am15_19 A9)
        (zq_if (zq_eq p0 (nat_lit 13))
        (zb_X_uncovered (fun r_120 => kp r_120 f0_counted_3 S2 am13_13 am14_16 am15_19 A6 A7 A8 A9 A10 A11 A12 A13 A14 A15 A16 A17) am15_19)
        (zq_if (zq_eq p0 (nat_lit 14))
        (zb_X_chainFronts (fun r_119 => kp r_119 f0_counted_3 S2 am13_13 am14_16 am15_19 A6 A7 A8 A9 A10 A11 A12 A13 A14 A15 A16 A17) am15_19)
        (zb_X_fewest (fun r_64 am9614_109 am9615_112 am9616_115 am9617_118 => kp r_64 f0_counted_3 S2 am13_13 am14_16 am15_19 A6 A7 A8 A9 A10 A11 A12 A13 am9614_109 am9615_112 am9616_115 am9617_118) p0 S0 A2 am13_13 am14_16 A14 A15 A16 A17)))))))
        (zb_X_byElimination (fun r_287 am246_308 am247_311 => kp r_287 f0_counted_3 S2 am13_13 am14_16 am15_19 am246_308 am247_311 A8 A9 A10 A11 A12 A13 A14 A15 A16 A17) p0 S0 am13_13 A6 A7))
        (zb_X_greatestScores (fun r_342 am126_363 => kp r_342 f0_counted_3 S2 am13_13 am14_16 am15_19 am126_363 A7 A8 A9 A10 A11 A12 A13 A14 A15 A16 A17) p0 S0 A2 am13_13 am14_16 A6)) S0 S1 A2 A3 A4 A5
theorem zs_X_winnersBy {post : Int32 → St2 → Prop} {kp : Nat → Nat → Nat → Nat → Nat → Nat → Nat → Nat → Nat → Nat → Nat → Nat → Nat → Nat → Nat → Nat → Nat → Nat → Bool} {p0 : Nat} {S0 : Nat} {S1 : Nat} {S2 : Nat} {A2 : Nat} {A3 : Nat} {A4 : Nat} {A5 : Nat} {A6 : Nat} {A7 : Nat} {A8 : Nat} {A9 : Nat} {A10 : Nat} {A11 : Nat} {A12 : Nat} {A13 : Nat} {A14 : Nat} {A15 : Nat} {A16 : Nat} {A17 : Nat} {A1 : Nat → Int32} {e_p0 : Int32} (h : zb_X_winnersBy kp p0 S0 S1 S2 A2 A3 A4 A5 A6 A7 A8 A9 A10 A11 A12 A13 A14 A15 A16 A17 = true) (q_p0 : e_p0 = nI p0) (hp : ∀ r w1 w2 w5 w6 w7 w8 w9 w10 w11 w12 w13 w14 w15 w16 w17 w18 w19 : Nat, kp r w1 w2 w5 w6 w7 w8 w9 w10 w11 w12 w13 w14 w15 w16 w17 w18 w19 = true → post (nI r) ((nI S0), (nI w1), (nI w2), A1, (zq_g A2), (zq_g w5), (zq_g w6), (zq_g w7), (zq_g w8), (zq_g w9), (zq_g w10), (zq_g w11), (zq_g w12), (zq_g w13), (zq_g w14), (zq_g w15), (zq_g w16), (zq_g w17), (zq_g w18), (zq_g w19))) : wpX_winnersBy post ((nI S0), (nI S1), (nI S2), A1, (zq_g A2), (zq_g A3), (zq_g A4), (zq_g A5), (zq_g A6), (zq_g A7), (zq_g A8), (zq_g A9), (zq_g A10), (zq_g A11), (zq_g A12), (zq_g A13), (zq_g A14), (zq_g A15), (zq_g A16), (zq_g A17)) e_p0 := by
  subst q_p0; have h : (zb_X_countAll (fun f0_counted_3 am13_13 am14_16 am15_19 => zq_if (zq_le (nat_lit 6) p0)
        (zq_if (zq_le (nat_lit 9) p0)
        (zq_if (zq_eq p0 (nat_lit 9))
        (zb_X_byStrength (fun r_232 am358_259 => kp r_232 f0_counted_3 S2 am13_13 am14_16 am15_19 A6 A7 am358_259 A9 A10 A11 A12 A13 A14 A15 A16 A17) am14_16 A8)
        (zq_if (zq_eq p0 (nat_lit 10))
        (zb_X_byCouples (fun r_177 f0_coupleCount_180 am469_207 am4610_210 am4611_213 am4612_216 am4613_219 => kp r_177 f0_counted_3 f0_coupleCount_180 am13_13 am14_16 am15_19 A6 A7 A8 am469_207 am4610_210 am4611_213 am4612_216 am4613_219 A14 A15 A16 A17) S2 am14_16 A9 A10 A11 A12 A13)
        (zq_if (zq_eq p0 (nat_lit 11))
        (zb_X_smallestSet (fun r_176 => kp r_176 f0_counted_3 S2 am13_13 am14_16 am15_19 A6 A7 A8 A9 A10 A11 A12 A13 A14 A15 A16 A17) am15_19)
        (zq_if (zq_eq p0 (nat_lit 12))
        (zb_X_unreturned (fun r_121 am689_151 => kp r_121 f0_counted_3 S2 am13_13 am14_16 am15_19 A6 A7 A8 am689_151 A10 A11 A12 A13 A14 A15 A16 A17) am15_19 A9)
        (zq_if (zq_eq p0 (nat_lit 13))
        (zb_X_uncovered (fun r_120 => kp r_120 f0_counted_3 S2 am13_13 am14_16 am15_19 A6 A7 A8 A9 A10 A11 A12 A13 A14 A15 A16 A17) am15_19)
        (zq_if (zq_eq p0 (nat_lit 14))
        (zb_X_chainFronts (fun r_119 => kp r_119 f0_counted_3 S2 am13_13 am14_16 am15_19 A6 A7 A8 A9 A10 A11 A12 A13 A14 A15 A16 A17) am15_19)
        (zb_X_fewest (fun r_64 am9614_109 am9615_112 am9616_115 am9617_118 => kp r_64 f0_counted_3 S2 am13_13 am14_16 am15_19 A6 A7 A8 A9 A10 A11 A12 A13 am9614_109 am9615_112 am9616_115 am9617_118) p0 S0 A2 am13_13 am14_16 A14 A15 A16 A17)))))))
        (zb_X_byElimination (fun r_287 am246_308 am247_311 => kp r_287 f0_counted_3 S2 am13_13 am14_16 am15_19 am246_308 am247_311 A8 A9 A10 A11 A12 A13 A14 A15 A16 A17) p0 S0 am13_13 A6 A7))
        (zb_X_greatestScores (fun r_342 am126_363 => kp r_342 f0_counted_3 S2 am13_13 am14_16 am15_19 am126_363 A7 A8 A9 A10 A11 A12 A13 A14 A15 A16 A17) p0 S0 A2 am13_13 am14_16 A6)) S0 S1 A2 A3 A4 A5) = true := h
  exact zs_X_countAll h (fun f0_counted_3 am13_13 am14_16 am15_19 h => zq_br h (zq_cle rfl rfl)
        (fun h => zq_br h (zq_cle rfl rfl)
        (fun h => zq_br h (zq_ceq rfl rfl)
        (fun h => zs_X_byStrength h (fun r_232 am358_259 h => hp _ _ _ _ _ _ _ _ _ _ _ _ _ _ _ _ _ _ h))
        (fun h => zq_br h (zq_ceq rfl rfl)
        (fun h => zs_X_byCouples h (fun r_177 f0_coupleCount_180 am469_207 am4610_210 am4611_213 am4612_216 am4613_219 h => hp _ _ _ _ _ _ _ _ _ _ _ _ _ _ _ _ _ _ h))
        (fun h => zq_br h (zq_ceq rfl rfl)
        (fun h => zs_X_smallestSet h (fun r_176 h => hp _ _ _ _ _ _ _ _ _ _ _ _ _ _ _ _ _ _ h))
        (fun h => zq_br h (zq_ceq rfl rfl)
        (fun h => zs_X_unreturned h (fun r_121 am689_151 h => hp _ _ _ _ _ _ _ _ _ _ _ _ _ _ _ _ _ _ h))
        (fun h => zq_br h (zq_ceq rfl rfl)
        (fun h => zs_X_uncovered h (fun r_120 h => hp _ _ _ _ _ _ _ _ _ _ _ _ _ _ _ _ _ _ h))
        (fun h => zq_br h (zq_ceq rfl rfl)
        (fun h => zs_X_chainFronts h (fun r_119 h => hp _ _ _ _ _ _ _ _ _ _ _ _ _ _ _ _ _ _ h))
        (fun h => zs_X_fewest h rfl (fun r_64 am9614_109 am9615_112 am9616_115 am9617_118 h => hp _ _ _ _ _ _ _ _ _ _ _ _ _ _ _ _ _ _ h))))))))
        (fun h => zs_X_byElimination h rfl (fun r_287 am246_308 am247_311 h => hp _ _ _ _ _ _ _ _ _ _ _ _ _ _ _ _ _ _ h)))
        (fun h => zs_X_greatestScores h rfl (fun r_342 am126_363 h => hp _ _ _ _ _ _ _ _ _ _ _ _ _ _ _ _ _ _ h)))
noncomputable def zb_X_winners (kp : Nat → Nat → Nat → Nat → Nat → Nat → Nat → Nat → Nat → Nat → Nat → Nat → Nat → Nat → Nat → Nat → Nat → Nat → Bool) (p0 : Nat) (S0 : Nat) (S1 : Nat) (S2 : Nat) (A2 : Nat) (A3 : Nat) (A4 : Nat) (A5 : Nat) (A6 : Nat) (A7 : Nat) (A8 : Nat) (A9 : Nat) (A10 : Nat) (A11 : Nat) (A12 : Nat) (A13 : Nat) (A14 : Nat) (A15 : Nat) (A16 : Nat) (A17 : Nat) : Bool :=
        zq_if (zq_lt p0 (nat_lit 0))
        (kp (nat_lit 4294966296) S1 S2 A3 A4 A5 A6 A7 A8 A9 A10 A11 A12 A13 A14 A15 A16 A17)
        (zq_if (zq_le p0 (nat_lit 16))
        (zb_X_winnersBy (fun r_3 f0_counted_5 f0_coupleCount_6 am183_15 am184_18 am185_21 am186_24 am187_27 am188_30 am189_33 am1810_36 am1811_39 am1812_42 am1813_45 am1814_48 am1815_51 am1816_54 am1817_57 => kp r_3 f0_counted_5 f0_coupleCount_6 am183_15 am184_18 am185_21 am186_24 am187_27 am188_30 am189_33 am1810_36 am1811_39 am1812_42 am1813_45 am1814_48 am1815_51 am1816_54 am1817_57) p0 S0 S1 S2 A2 A3 A4 A5 A6 A7 A8 A9 A10 A11 A12 A13 A14 A15 A16 A17)
        (kp (nat_lit 4294966296) S1 S2 A3 A4 A5 A6 A7 A8 A9 A10 A11 A12 A13 A14 A15 A16 A17))
theorem zs_X_winners {post : Int32 → St2 → Prop} {kp : Nat → Nat → Nat → Nat → Nat → Nat → Nat → Nat → Nat → Nat → Nat → Nat → Nat → Nat → Nat → Nat → Nat → Nat → Bool} {p0 : Nat} {S0 : Nat} {S1 : Nat} {S2 : Nat} {A2 : Nat} {A3 : Nat} {A4 : Nat} {A5 : Nat} {A6 : Nat} {A7 : Nat} {A8 : Nat} {A9 : Nat} {A10 : Nat} {A11 : Nat} {A12 : Nat} {A13 : Nat} {A14 : Nat} {A15 : Nat} {A16 : Nat} {A17 : Nat} {A1 : Nat → Int32} {e_p0 : Int32} (h : zb_X_winners kp p0 S0 S1 S2 A2 A3 A4 A5 A6 A7 A8 A9 A10 A11 A12 A13 A14 A15 A16 A17 = true) (q_p0 : e_p0 = nI p0) (hp : ∀ r w1 w2 w5 w6 w7 w8 w9 w10 w11 w12 w13 w14 w15 w16 w17 w18 w19 : Nat, kp r w1 w2 w5 w6 w7 w8 w9 w10 w11 w12 w13 w14 w15 w16 w17 w18 w19 = true → post (nI r) ((nI S0), (nI w1), (nI w2), A1, (zq_g A2), (zq_g w5), (zq_g w6), (zq_g w7), (zq_g w8), (zq_g w9), (zq_g w10), (zq_g w11), (zq_g w12), (zq_g w13), (zq_g w14), (zq_g w15), (zq_g w16), (zq_g w17), (zq_g w18), (zq_g w19))) : wpX_winners post ((nI S0), (nI S1), (nI S2), A1, (zq_g A2), (zq_g A3), (zq_g A4), (zq_g A5), (zq_g A6), (zq_g A7), (zq_g A8), (zq_g A9), (zq_g A10), (zq_g A11), (zq_g A12), (zq_g A13), (zq_g A14), (zq_g A15), (zq_g A16), (zq_g A17)) e_p0 := by
  subst q_p0; have h : (zq_if (zq_lt p0 (nat_lit 0))
        (kp (nat_lit 4294966296) S1 S2 A3 A4 A5 A6 A7 A8 A9 A10 A11 A12 A13 A14 A15 A16 A17)
        (zq_if (zq_le p0 (nat_lit 16))
        (zb_X_winnersBy (fun r_3 f0_counted_5 f0_coupleCount_6 am183_15 am184_18 am185_21 am186_24 am187_27 am188_30 am189_33 am1810_36 am1811_39 am1812_42 am1813_45 am1814_48 am1815_51 am1816_54 am1817_57 => kp r_3 f0_counted_5 f0_coupleCount_6 am183_15 am184_18 am185_21 am186_24 am187_27 am188_30 am189_33 am1810_36 am1811_39 am1812_42 am1813_45 am1814_48 am1815_51 am1816_54 am1817_57) p0 S0 S1 S2 A2 A3 A4 A5 A6 A7 A8 A9 A10 A11 A12 A13 A14 A15 A16 A17)
        (kp (nat_lit 4294966296) S1 S2 A3 A4 A5 A6 A7 A8 A9 A10 A11 A12 A13 A14 A15 A16 A17))) = true := h
  exact zq_br h (zq_clt rfl rfl)
        (fun h => Eq.mpr (congrFun (congrArg post zq_m1000) _) (hp _ _ _ _ _ _ _ _ _ _ _ _ _ _ _ _ _ _ h))
        (fun h => zq_br h (zq_cle rfl rfl)
        (fun h => zs_X_winnersBy h rfl (fun r_3 f0_counted_5 f0_coupleCount_6 am183_15 am184_18 am185_21 am186_24 am187_27 am188_30 am189_33 am1810_36 am1811_39 am1812_42 am1813_45 am1814_48 am1815_51 am1816_54 am1817_57 h => hp _ _ _ _ _ _ _ _ _ _ _ _ _ _ _ _ _ _ h))
        (fun h => Eq.mpr (congrFun (congrArg post zq_m1000) _) (hp _ _ _ _ _ _ _ _ _ _ _ _ _ _ _ _ _ _ h)))
noncomputable def zb_X_isCandidate (kp : Nat → Bool) (p0 : Nat) : Bool :=
        zq_if (zq_lt p0 (nat_lit 0))
        (kp (nat_lit 0))
        (zq_if (zq_le (nat_lit 5) p0)
        (kp (nat_lit 0))
        (kp (nat_lit 1)))
theorem zs_X_isCandidate {post : Int32 → Prop} {kp : Nat → Bool} {p0 : Nat} {S0 : Int32} {S1 : Int32} {S2 : Int32} {A1 : Nat → Int32} {A2 : Nat → Int32} {A3 : Nat → Int32} {A4 : Nat → Int32} {A5 : Nat → Int32} {A6 : Nat → Int32} {A7 : Nat → Int32} {A8 : Nat → Int32} {A9 : Nat → Int32} {A10 : Nat → Int32} {A11 : Nat → Int32} {A12 : Nat → Int32} {A13 : Nat → Int32} {A14 : Nat → Int32} {A15 : Nat → Int32} {A16 : Nat → Int32} {A17 : Nat → Int32} {e_p0 : Int32} (h : zb_X_isCandidate kp p0 = true) (q_p0 : e_p0 = nI p0) (hp : ∀ r : Nat, kp r = true → post (nI r)) : wpX_isCandidate post (S0, S1, S2, A1, A2, A3, A4, A5, A6, A7, A8, A9, A10, A11, A12, A13, A14, A15, A16, A17) e_p0 := by
  subst q_p0; have h : (zq_if (zq_lt p0 (nat_lit 0))
        (kp (nat_lit 0))
        (zq_if (zq_le (nat_lit 5) p0)
        (kp (nat_lit 0))
        (kp (nat_lit 1)))) = true := h
  exact zq_br h (zq_clt rfl rfl)
        (fun h => hp _ h)
        (fun h => zq_br h (zq_cle rfl rfl)
        (fun h => hp _ h)
        (fun h => hp _ h))
noncomputable def zb_X_margin (kp : Nat → Nat → Nat → Nat → Nat → Bool) (p0 : Nat) (p1 : Nat) (S0 : Nat) (S1 : Nat) (A2 : Nat) (A3 : Nat) (A4 : Nat) (A5 : Nat) : Bool :=
        zb_X_isCandidate (fun r_1 => zq_if (zq_eq r_1 (nat_lit 0))
        (kp (nat_lit 0) S1 A3 A4 A5)
        (zb_X_isCandidate (fun r_3 => zq_if (zq_eq r_3 (nat_lit 0))
        (kp (nat_lit 0) S1 A3 A4 A5)
        (zb_X_countAll (fun f0_counted_7 am193_17 am194_20 am195_23 => zq_if (zq_in (zq_add (zq_mul (nat_lit 5) p0) p1) (nat_lit 25))
        (zq_fc (zq_get am194_20 (zq_cl (zq_add (zq_mul (nat_lit 5) p0) p1))) (fun y1 => kp y1 f0_counted_7 am193_17 am194_20 am195_23)) false) S0 S1 A2 A3 A4 A5)) p1)) p0
theorem zs_X_margin {post : Int32 → St2 → Prop} {kp : Nat → Nat → Nat → Nat → Nat → Bool} {p0 : Nat} {p1 : Nat} {S0 : Nat} {S1 : Nat} {A2 : Nat} {A3 : Nat} {A4 : Nat} {A5 : Nat} {S2 : Int32} {A1 : Nat → Int32} {A6 : Nat → Int32} {A7 : Nat → Int32} {A8 : Nat → Int32} {A9 : Nat → Int32} {A10 : Nat → Int32} {A11 : Nat → Int32} {A12 : Nat → Int32} {A13 : Nat → Int32} {A14 : Nat → Int32} {A15 : Nat → Int32} {A16 : Nat → Int32} {A17 : Nat → Int32} {e_p0 : Int32} {e_p1 : Int32} (h : zb_X_margin kp p0 p1 S0 S1 A2 A3 A4 A5 = true) (q_p0 : e_p0 = nI p0) (q_p1 : e_p1 = nI p1) (hp : ∀ r w1 w5 w6 w7 : Nat, kp r w1 w5 w6 w7 = true → post (nI r) ((nI S0), (nI w1), S2, A1, (zq_g A2), (zq_g w5), (zq_g w6), (zq_g w7), A6, A7, A8, A9, A10, A11, A12, A13, A14, A15, A16, A17)) : wpX_margin post ((nI S0), (nI S1), S2, A1, (zq_g A2), (zq_g A3), (zq_g A4), (zq_g A5), A6, A7, A8, A9, A10, A11, A12, A13, A14, A15, A16, A17) e_p0 e_p1 := by
  subst q_p0; subst q_p1; unfold wpX_margin; dsimp only; have h : (zb_X_isCandidate (fun r_1 => zq_if (zq_eq r_1 (nat_lit 0))
        (kp (nat_lit 0) S1 A3 A4 A5)
        (zb_X_isCandidate (fun r_3 => zq_if (zq_eq r_3 (nat_lit 0))
        (kp (nat_lit 0) S1 A3 A4 A5)
        (zb_X_countAll (fun f0_counted_7 am193_17 am194_20 am195_23 => zq_if (zq_in (zq_add (zq_mul (nat_lit 5) p0) p1) (nat_lit 25))
        (zq_fc (zq_get am194_20 (zq_cl (zq_add (zq_mul (nat_lit 5) p0) p1))) (fun y1 => kp y1 f0_counted_7 am193_17 am194_20 am195_23)) false) S0 S1 A2 A3 A4 A5)) p1)) p0) = true := h
  exact zs_X_isCandidate h rfl (fun r_1 h => zq_br h (zq_ceq rfl rfl)
        (fun h => hp _ _ _ _ _ h)
        (fun h => zs_X_isCandidate h rfl (fun r_3 h => zq_br h (zq_ceq rfl rfl)
        (fun h => hp _ _ _ _ _ h)
        (fun h => zs_X_countAll h (fun f0_counted_7 am193_17 am194_20 am195_23 h => zq_vi h (zq_hadd (zq_hmul rfl rfl) rfl) (by decide) (fun h => have h := zq_fe h; Eq.mpr (congrFun (congrArg post (zq_rd (zq_hadd (zq_hmul rfl rfl) rfl))) _) (hp _ _ _ _ _ h)))))))
noncomputable def zb_X_strength (kp : Nat → Nat → Nat → Nat → Nat → Nat → Bool) (p0 : Nat) (p1 : Nat) (S0 : Nat) (S1 : Nat) (A2 : Nat) (A3 : Nat) (A4 : Nat) (A5 : Nat) (A8 : Nat) : Bool :=
        zb_X_isCandidate (fun r_1 => zq_if (zq_eq r_1 (nat_lit 0))
        (kp (nat_lit 0) S1 A3 A4 A5 A8)
        (zb_X_isCandidate (fun r_3 => zq_if (zq_eq r_3 (nat_lit 0))
        (kp (nat_lit 0) S1 A3 A4 A5 A8)
        (zq_if (zq_eq p0 p1)
        (kp (nat_lit 0) S1 A3 A4 A5 A8)
        (zb_X_countAll (fun f0_counted_8 am243_18 am244_21 am245_24 => zb_X_findStrengths (fun am288_88 => zq_if (zq_in (zq_add (zq_mul (nat_lit 5) p0) p1) (nat_lit 25))
        (zq_fc (zq_get am288_88 (zq_cl (zq_add (zq_mul (nat_lit 5) p0) p1))) (fun y1 => kp y1 f0_counted_8 am243_18 am244_21 am245_24 am288_88)) false) am244_21 A8) S0 S1 A2 A3 A4 A5))) p1)) p0
theorem zs_X_strength {post : Int32 → St2 → Prop} {kp : Nat → Nat → Nat → Nat → Nat → Nat → Bool} {p0 : Nat} {p1 : Nat} {S0 : Nat} {S1 : Nat} {A2 : Nat} {A3 : Nat} {A4 : Nat} {A5 : Nat} {A8 : Nat} {S2 : Int32} {A1 : Nat → Int32} {A6 : Nat → Int32} {A7 : Nat → Int32} {A9 : Nat → Int32} {A10 : Nat → Int32} {A11 : Nat → Int32} {A12 : Nat → Int32} {A13 : Nat → Int32} {A14 : Nat → Int32} {A15 : Nat → Int32} {A16 : Nat → Int32} {A17 : Nat → Int32} {e_p0 : Int32} {e_p1 : Int32} (h : zb_X_strength kp p0 p1 S0 S1 A2 A3 A4 A5 A8 = true) (q_p0 : e_p0 = nI p0) (q_p1 : e_p1 = nI p1) (hp : ∀ r w1 w5 w6 w7 w10 : Nat, kp r w1 w5 w6 w7 w10 = true → post (nI r) ((nI S0), (nI w1), S2, A1, (zq_g A2), (zq_g w5), (zq_g w6), (zq_g w7), A6, A7, (zq_g w10), A9, A10, A11, A12, A13, A14, A15, A16, A17)) : wpX_strength post ((nI S0), (nI S1), S2, A1, (zq_g A2), (zq_g A3), (zq_g A4), (zq_g A5), A6, A7, (zq_g A8), A9, A10, A11, A12, A13, A14, A15, A16, A17) e_p0 e_p1 := by
  subst q_p0; subst q_p1; unfold wpX_strength; dsimp only; have h : (zb_X_isCandidate (fun r_1 => zq_if (zq_eq r_1 (nat_lit 0))
        (kp (nat_lit 0) S1 A3 A4 A5 A8)
        (zb_X_isCandidate (fun r_3 => zq_if (zq_eq r_3 (nat_lit 0))
        (kp (nat_lit 0) S1 A3 A4 A5 A8)
        (zq_if (zq_eq p0 p1)
        (kp (nat_lit 0) S1 A3 A4 A5 A8)
        (zb_X_countAll (fun f0_counted_8 am243_18 am244_21 am245_24 => zb_X_findStrengths (fun am288_88 => zq_if (zq_in (zq_add (zq_mul (nat_lit 5) p0) p1) (nat_lit 25))
        (zq_fc (zq_get am288_88 (zq_cl (zq_add (zq_mul (nat_lit 5) p0) p1))) (fun y1 => kp y1 f0_counted_8 am243_18 am244_21 am245_24 am288_88)) false) am244_21 A8) S0 S1 A2 A3 A4 A5))) p1)) p0) = true := h
  exact zs_X_isCandidate h rfl (fun r_1 h => zq_br h (zq_ceq rfl rfl)
        (fun h => hp _ _ _ _ _ _ h)
        (fun h => zs_X_isCandidate h rfl (fun r_3 h => zq_br h (zq_ceq rfl rfl)
        (fun h => hp _ _ _ _ _ _ h)
        (fun h => zq_br h (zq_ceq rfl rfl)
        (fun h => hp _ _ _ _ _ _ h)
        (fun h => zs_X_countAll h (fun f0_counted_8 am243_18 am244_21 am245_24 h => zs_X_findStrengths h (fun am288_88 h => zq_vi h (zq_hadd (zq_hmul rfl rfl) rfl) (by decide) (fun h => have h := zq_fe h; Eq.mpr (congrFun (congrArg post (zq_rd (zq_hadd (zq_hmul rfl rfl) rfl))) _) (hp _ _ _ _ _ _ h)))))))))
noncomputable def zb_X_leader_6 (kp : Nat → Nat → Nat → Nat → Nat → Bool) (S0 : Nat) (S1 : Nat) (A2 : Nat) (A3 : Nat) (A4 : Nat) (A5 : Nat) : Nat → Nat → Bool := fun fu => @Nat.rec (fun _ => Nat → Bool) (fun _ => false) (fun _ ih => fun x1 =>
        zq_if (zq_le (nat_lit 5) x1)
        (kp (nat_lit 4294966294) S1 A3 A4 A5)
        (zq_if (zq_in x1 (nat_lit 5))
        (zq_if (zq_eq (zq_or (zq_get A5 (zq_cl x1)) (zq_shl (nat_lit 1) x1)) (nat_lit 31))
        (kp x1 S1 A3 A4 A5)
        (zq_fc (zq_add x1 (nat_lit 1)) (fun x1_59 => ih x1_59))) false)) fu
theorem zr_X_leader_6 {post : Int32 → St2 → Prop} {kp : Nat → Nat → Nat → Nat → Nat → Bool} {S0 : Nat} {S1 : Nat} {A2 : Nat} {A3 : Nat} {A4 : Nat} {A5 : Nat} {S2 : Int32} {A1 : Nat → Int32} {A6 : Nat → Int32} {A7 : Nat → Int32} {A8 : Nat → Int32} {A9 : Nat → Int32} {A10 : Nat → Int32} {A11 : Nat → Int32} {A12 : Nat → Int32} {A13 : Nat → Int32} {A14 : Nat → Int32} {A15 : Nat → Int32} {A16 : Nat → Int32} {A17 : Nat → Int32} (hp : ∀ r w1 w5 w6 w7 : Nat, kp r w1 w5 w6 w7 = true → post (nI r) ((nI S0), (nI w1), S2, A1, (zq_g A2), (zq_g w5), (zq_g w6), (zq_g w7), A6, A7, A8, A9, A10, A11, A12, A13, A14, A15, A16, A17)) (fu : Nat) : ∀ (x1 : Nat) (e_x1 : Int32), zb_X_leader_6 kp S0 S1 A2 A3 A4 A5 fu x1 = true → e_x1 = nI x1 → wX_leader_6 post (nI S0) (nI S1) S2 A1 (zq_g A2) (zq_g A3) (zq_g A4) (zq_g A5) A6 A7 A8 A9 A10 A11 A12 A13 A14 A15 A16 A17 fu e_x1 := by
  induction fu with
  | zero => intro x1 e_x1 h q_x1; exact absurd h Bool.false_ne_true
  | succ n ih =>
    intro x1 e_x1 h q_x1
    subst q_x1; have h : (zq_if (zq_le (nat_lit 5) x1)
        (kp (nat_lit 4294966294) S1 A3 A4 A5)
        (zq_if (zq_in x1 (nat_lit 5))
        (zq_if (zq_eq (zq_or (zq_get A5 (zq_cl x1)) (zq_shl (nat_lit 1) x1)) (nat_lit 31))
        (kp x1 S1 A3 A4 A5)
        (zq_fc (zq_add x1 (nat_lit 1)) (fun x1_59 => (zb_X_leader_6 kp S0 S1 A2 A3 A4 A5 n) x1_59))) false)) = true := h
    exact zq_br h (zq_cle rfl rfl)
        (fun h => Eq.mpr (congrFun (congrArg post zq_m1002) _) (hp _ _ _ _ _ h))
        (fun h => zq_vi h rfl (by decide) (fun h => zq_br h (zq_ceq (zq_hor (zq_rd rfl) (zq_hshl rfl rfl)) rfl)
        (fun h => hp _ _ _ _ _ h)
        (fun h => zq_ly h (zq_hadd rfl rfl) (fun x1_59 h => ih _ _ h rfl))))
theorem zs_X_leader_6 {post : Int32 → St2 → Prop} {kp : Nat → Nat → Nat → Nat → Nat → Bool} {S0 : Nat} {S1 : Nat} {A2 : Nat} {A3 : Nat} {A4 : Nat} {A5 : Nat} {x1 : Nat} {S2 : Int32} {A1 : Nat → Int32} {A6 : Nat → Int32} {A7 : Nat → Int32} {A8 : Nat → Int32} {A9 : Nat → Int32} {A10 : Nat → Int32} {A11 : Nat → Int32} {A12 : Nat → Int32} {A13 : Nat → Int32} {A14 : Nat → Int32} {A15 : Nat → Int32} {A16 : Nat → Int32} {A17 : Nat → Int32} {e_x1 : Int32} {fu : Nat} (h : zb_X_leader_6 kp S0 S1 A2 A3 A4 A5 fu x1 = true) (q_x1 : e_x1 = nI x1) (hp : ∀ r w1 w5 w6 w7 : Nat, kp r w1 w5 w6 w7 = true → post (nI r) ((nI S0), (nI w1), S2, A1, (zq_g A2), (zq_g w5), (zq_g w6), (zq_g w7), A6, A7, A8, A9, A10, A11, A12, A13, A14, A15, A16, A17)) : wX_leader_6 post (nI S0) (nI S1) S2 A1 (zq_g A2) (zq_g A3) (zq_g A4) (zq_g A5) A6 A7 A8 A9 A10 A11 A12 A13 A14 A15 A16 A17 fu e_x1 := by
  exact zr_X_leader_6 hp fu _ _ h q_x1
noncomputable def zb_X_leader (kp : Nat → Nat → Nat → Nat → Nat → Bool) (S0 : Nat) (S1 : Nat) (A2 : Nat) (A3 : Nat) (A4 : Nat) (A5 : Nat) : Bool :=
        zb_X_countAll (fun f0_counted_3 am13_13 am14_16 am15_19 => zb_X_leader_6 kp S0 f0_counted_3 A2 am13_13 am14_16 am15_19 40 (nat_lit 0)) S0 S1 A2 A3 A4 A5
theorem zs_X_leader {post : Int32 → St2 → Prop} {kp : Nat → Nat → Nat → Nat → Nat → Bool} {S0 : Nat} {S1 : Nat} {A2 : Nat} {A3 : Nat} {A4 : Nat} {A5 : Nat} {S2 : Int32} {A1 : Nat → Int32} {A6 : Nat → Int32} {A7 : Nat → Int32} {A8 : Nat → Int32} {A9 : Nat → Int32} {A10 : Nat → Int32} {A11 : Nat → Int32} {A12 : Nat → Int32} {A13 : Nat → Int32} {A14 : Nat → Int32} {A15 : Nat → Int32} {A16 : Nat → Int32} {A17 : Nat → Int32} (h : zb_X_leader kp S0 S1 A2 A3 A4 A5 = true) (hp : ∀ r w1 w5 w6 w7 : Nat, kp r w1 w5 w6 w7 = true → post (nI r) ((nI S0), (nI w1), S2, A1, (zq_g A2), (zq_g w5), (zq_g w6), (zq_g w7), A6, A7, A8, A9, A10, A11, A12, A13, A14, A15, A16, A17)) : wpX_leader post ((nI S0), (nI S1), S2, A1, (zq_g A2), (zq_g A3), (zq_g A4), (zq_g A5), A6, A7, A8, A9, A10, A11, A12, A13, A14, A15, A16, A17) := by
  have h : (zb_X_countAll (fun f0_counted_3 am13_13 am14_16 am15_19 => zb_X_leader_6 kp S0 f0_counted_3 A2 am13_13 am14_16 am15_19 40 (nat_lit 0)) S0 S1 A2 A3 A4 A5) = true := h
  exact zs_X_countAll h (fun f0_counted_3 am13_13 am14_16 am15_19 h => Exists.intro 40 (zs_X_leader_6 h rfl hp))
noncomputable def zb_X_swaps (kp : Nat → Nat → Nat → Nat → Nat → Nat → Nat → Nat → Nat → Bool) (p0 : Nat) (S0 : Nat) (S1 : Nat) (A2 : Nat) (A3 : Nat) (A4 : Nat) (A5 : Nat) (A14 : Nat) (A15 : Nat) (A16 : Nat) (A17 : Nat) : Bool :=
        zb_X_isCandidate (fun r_1 => zq_if (zq_eq r_1 (nat_lit 0))
        (kp (nat_lit 4294966296) S1 A3 A4 A5 A14 A15 A16 A17)
        (zb_X_countAll (fun f0_counted_5 am133_15 am134_18 am135_21 => zb_X_swapsOf (fun r_58 am1814_103 am1815_106 am1816_109 am1817_112 => kp r_58 f0_counted_5 am133_15 am134_18 am135_21 am1814_103 am1815_106 am1816_109 am1817_112) p0 S0 A2 am134_18 A14 A15 A16 A17) S0 S1 A2 A3 A4 A5)) p0
theorem zs_X_swaps {post : Int32 → St2 → Prop} {kp : Nat → Nat → Nat → Nat → Nat → Nat → Nat → Nat → Nat → Bool} {p0 : Nat} {S0 : Nat} {S1 : Nat} {A2 : Nat} {A3 : Nat} {A4 : Nat} {A5 : Nat} {A14 : Nat} {A15 : Nat} {A16 : Nat} {A17 : Nat} {S2 : Int32} {A1 : Nat → Int32} {A6 : Nat → Int32} {A7 : Nat → Int32} {A8 : Nat → Int32} {A9 : Nat → Int32} {A10 : Nat → Int32} {A11 : Nat → Int32} {A12 : Nat → Int32} {A13 : Nat → Int32} {e_p0 : Int32} (h : zb_X_swaps kp p0 S0 S1 A2 A3 A4 A5 A14 A15 A16 A17 = true) (q_p0 : e_p0 = nI p0) (hp : ∀ r w1 w5 w6 w7 w16 w17 w18 w19 : Nat, kp r w1 w5 w6 w7 w16 w17 w18 w19 = true → post (nI r) ((nI S0), (nI w1), S2, A1, (zq_g A2), (zq_g w5), (zq_g w6), (zq_g w7), A6, A7, A8, A9, A10, A11, A12, A13, (zq_g w16), (zq_g w17), (zq_g w18), (zq_g w19))) : wpX_swaps post ((nI S0), (nI S1), S2, A1, (zq_g A2), (zq_g A3), (zq_g A4), (zq_g A5), A6, A7, A8, A9, A10, A11, A12, A13, (zq_g A14), (zq_g A15), (zq_g A16), (zq_g A17)) e_p0 := by
  subst q_p0; unfold wpX_swaps; dsimp only; have h : (zb_X_isCandidate (fun r_1 => zq_if (zq_eq r_1 (nat_lit 0))
        (kp (nat_lit 4294966296) S1 A3 A4 A5 A14 A15 A16 A17)
        (zb_X_countAll (fun f0_counted_5 am133_15 am134_18 am135_21 => zb_X_swapsOf (fun r_58 am1814_103 am1815_106 am1816_109 am1817_112 => kp r_58 f0_counted_5 am133_15 am134_18 am135_21 am1814_103 am1815_106 am1816_109 am1817_112) p0 S0 A2 am134_18 A14 A15 A16 A17) S0 S1 A2 A3 A4 A5)) p0) = true := h
  exact zs_X_isCandidate h rfl (fun r_1 h => zq_br h (zq_ceq rfl rfl)
        (fun h => Eq.mpr (congrFun (congrArg post zq_m1000) _) (hp _ _ _ _ _ _ _ _ _ h))
        (fun h => zs_X_countAll h (fun f0_counted_5 am133_15 am134_18 am135_21 h => zs_X_swapsOf h rfl (fun r_58 am1814_103 am1815_106 am1816_109 am1817_112 h => hp _ _ _ _ _ _ _ _ _ h))))
noncomputable def zb_X_removals (kp : Nat → Nat → Nat → Nat → Nat → Bool) (p0 : Nat) (S0 : Nat) (S1 : Nat) (A2 : Nat) (A3 : Nat) (A4 : Nat) (A5 : Nat) : Bool :=
        zb_X_isCandidate (fun r_1 => zq_if (zq_eq r_1 (nat_lit 0))
        (kp (nat_lit 4294966296) S1 A3 A4 A5)
        (zb_X_countAll (fun f0_counted_5 am133_15 am134_18 am135_21 => zb_X_removalsOf (fun r_58 => kp r_58 f0_counted_5 am133_15 am134_18 am135_21) p0 S0 am133_15) S0 S1 A2 A3 A4 A5)) p0
theorem zs_X_removals {post : Int32 → St2 → Prop} {kp : Nat → Nat → Nat → Nat → Nat → Bool} {p0 : Nat} {S0 : Nat} {S1 : Nat} {A2 : Nat} {A3 : Nat} {A4 : Nat} {A5 : Nat} {S2 : Int32} {A1 : Nat → Int32} {A6 : Nat → Int32} {A7 : Nat → Int32} {A8 : Nat → Int32} {A9 : Nat → Int32} {A10 : Nat → Int32} {A11 : Nat → Int32} {A12 : Nat → Int32} {A13 : Nat → Int32} {A14 : Nat → Int32} {A15 : Nat → Int32} {A16 : Nat → Int32} {A17 : Nat → Int32} {e_p0 : Int32} (h : zb_X_removals kp p0 S0 S1 A2 A3 A4 A5 = true) (q_p0 : e_p0 = nI p0) (hp : ∀ r w1 w5 w6 w7 : Nat, kp r w1 w5 w6 w7 = true → post (nI r) ((nI S0), (nI w1), S2, A1, (zq_g A2), (zq_g w5), (zq_g w6), (zq_g w7), A6, A7, A8, A9, A10, A11, A12, A13, A14, A15, A16, A17)) : wpX_removals post ((nI S0), (nI S1), S2, A1, (zq_g A2), (zq_g A3), (zq_g A4), (zq_g A5), A6, A7, A8, A9, A10, A11, A12, A13, A14, A15, A16, A17) e_p0 := by
  subst q_p0; unfold wpX_removals; dsimp only; have h : (zb_X_isCandidate (fun r_1 => zq_if (zq_eq r_1 (nat_lit 0))
        (kp (nat_lit 4294966296) S1 A3 A4 A5)
        (zb_X_countAll (fun f0_counted_5 am133_15 am134_18 am135_21 => zb_X_removalsOf (fun r_58 => kp r_58 f0_counted_5 am133_15 am134_18 am135_21) p0 S0 am133_15) S0 S1 A2 A3 A4 A5)) p0) = true := h
  exact zs_X_isCandidate h rfl (fun r_1 h => zq_br h (zq_ceq rfl rfl)
        (fun h => Eq.mpr (congrFun (congrArg post zq_m1000) _) (hp _ _ _ _ _ h))
        (fun h => zs_X_countAll h (fun f0_counted_5 am133_15 am134_18 am135_21 h => zs_X_removalsOf h rfl (fun r_58 h => hp _ _ _ _ _ h))))
end
section
/-! printed by gen.py: the making of the object, lawOf -/
theorem zs_init {post : St2 → Prop} (h : post ((nI (nat_lit 0)), (nI (nat_lit 0)), (nI (nat_lit 0)), (zq_g (nat_lit 0)), (zq_g (nat_lit 0)), (zq_g (nat_lit 0)), (zq_g (nat_lit 0)), (zq_g (nat_lit 0)), (zq_g (nat_lit 0)), (zq_g (nat_lit 0)), (zq_g (nat_lit 0)), (zq_g (nat_lit 0)), (zq_g (nat_lit 0)), (zq_g (nat_lit 0)), (zq_g (nat_lit 0)), (zq_g (nat_lit 0)), (zq_g (nat_lit 0)), (zq_g (nat_lit 0)), (zq_g (nat_lit 0)), (zq_g (nat_lit 0)))) : wpX_init post 17 4844 (0, 0, 0) := by
  rw [zq_g0] at h
  exact And.intro (by decide) (And.intro (by decide) (And.intro (by decide) (And.intro (by decide) (And.intro (by decide) (And.intro (by decide) (And.intro (by decide) (And.intro (by decide) (And.intro (by decide) (And.intro (by decide) (And.intro (by decide) (And.intro (by decide) (And.intro (by decide) (And.intro (by decide) (And.intro (by decide) (And.intro (by decide) (And.intro (by decide) (And.intro (by decide) (And.intro (by decide) (And.intro (by decide) (And.intro (by decide) (And.intro (by decide) (And.intro (by decide) (And.intro (by decide) (And.intro (by decide) (And.intro (by decide) (And.intro (by decide) (And.intro (by decide) (And.intro (by decide) (And.intro (by decide) (And.intro (by decide) (And.intro (by decide) (And.intro (by decide) (And.intro (by decide) (h))))))))))))))))))))))))))))))))))
noncomputable def zb_L_lawOf_176 (kp : Nat → Bool) (x3 : Nat) (x4 : Nat) (x5 : Nat) (z0 : Nat) (z1 : Nat) (S0 : Nat) (S1 : Nat) (A2 : Nat) (A3 : Nat) (A4 : Nat) (A5 : Nat) (A8 : Nat) (A14 : Nat) (A15 : Nat) (A16 : Nat) (A17 : Nat) : Bool :=
        zq_if (zq_eq z1 z0)
        (zb_X_margin (fun r_303 fm65_counted_305 am1863_315 am1864_318 am1865_321 => zq_if (zq_eq r_303 (nat_lit 1))
        (zb_X_margin (fun r_359 fm65_counted_361 am2003_371 am2004_374 am2005_377 => zq_if (zq_eq r_359 (nat_lit 4294967295))
        (zb_X_strength (fun r_415 fm65_counted_417 am2143_427 am2144_430 am2145_433 am2148_442 => zq_if (zq_eq r_415 (nat_lit 1))
        (zb_X_leader (fun r_471 fm65_counted_473 am2253_483 am2254_486 am2255_489 => zq_if (zq_eq r_471 (nat_lit 4294966294))
        (zb_X_swaps (fun r_527 fm65_counted_529 am2393_539 am2394_542 am2395_545 am23914_572 am23915_575 am23916_578 am23917_581 => zq_if (zq_eq r_527 (nat_lit 1))
        (zb_X_removals (fun r_583 fm65_counted_585 am2503_595 am2504_598 am2505_601 => zq_if (zq_eq r_583 (nat_lit 2))
        (kp (nat_lit 1))
        (kp (nat_lit 0))) x4 S0 fm65_counted_529 A2 am2393_539 am2394_542 am2395_545)
        (kp (nat_lit 0))) x3 S0 fm65_counted_473 A2 am2253_483 am2254_486 am2255_489 A14 A15 A16 A17)
        (kp (nat_lit 0))) S0 fm65_counted_417 A2 am2143_427 am2144_430 am2145_433)
        (kp (nat_lit 0))) x4 x3 S0 fm65_counted_361 A2 am2003_371 am2004_374 am2005_377 A8)
        (kp (nat_lit 0))) x3 x5 S0 fm65_counted_305 A2 am1863_315 am1864_318 am1865_321)
        (kp (nat_lit 0))) x3 x4 S0 S1 A2 A3 A4 A5)
        (kp (nat_lit 0))
theorem zs_L_lawOf_176 {post : Int32 → St0 → Prop} {kp : Nat → Bool} {x3 : Nat} {x4 : Nat} {x5 : Nat} {z0 : Nat} {z1 : Nat} {S0 : Nat} {S1 : Nat} {A2 : Nat} {A3 : Nat} {A4 : Nat} {A5 : Nat} {A8 : Nat} {A14 : Nat} {A15 : Nat} {A16 : Nat} {A17 : Nat} {S2 : Int32} {A1 : Nat → Int32} {A6 : Nat → Int32} {A7 : Nat → Int32} {A9 : Nat → Int32} {A10 : Nat → Int32} {A11 : Nat → Int32} {A12 : Nat → Int32} {A13 : Nat → Int32} {mc : Nat} {ms : Nat} {kc : Nat} {ks : Nat} {e_x3 : Int32} {e_x4 : Int32} {e_x5 : Int32} {e_z0 : Int32} {e_z1 : Int32} (h : zb_L_lawOf_176 kp x3 x4 x5 z0 z1 S0 S1 A2 A3 A4 A5 A8 A14 A15 A16 A17 = true) (q_x3 : e_x3 = nI x3) (q_x4 : e_x4 = nI x4) (q_x5 : e_x5 = nI x5) (q_z0 : e_z0 = nI z0) (q_z1 : e_z1 = nI z1) (hp : ∀ r : Nat, kp r = true → post (nI r) ()) : wL_lawOf_176 post mc ms e_x3 e_x4 e_x5 e_z0 e_z1 kc ks (nI S0) (nI S1) S2 A1 (zq_g A2) (zq_g A3) (zq_g A4) (zq_g A5) A6 A7 (zq_g A8) A9 A10 A11 A12 A13 (zq_g A14) (zq_g A15) (zq_g A16) (zq_g A17) := by
  subst q_x3; subst q_x4; subst q_x5; subst q_z0; subst q_z1; have h : (zq_if (zq_eq z1 z0)
        (zb_X_margin (fun r_303 fm65_counted_305 am1863_315 am1864_318 am1865_321 => zq_if (zq_eq r_303 (nat_lit 1))
        (zb_X_margin (fun r_359 fm65_counted_361 am2003_371 am2004_374 am2005_377 => zq_if (zq_eq r_359 (nat_lit 4294967295))
        (zb_X_strength (fun r_415 fm65_counted_417 am2143_427 am2144_430 am2145_433 am2148_442 => zq_if (zq_eq r_415 (nat_lit 1))
        (zb_X_leader (fun r_471 fm65_counted_473 am2253_483 am2254_486 am2255_489 => zq_if (zq_eq r_471 (nat_lit 4294966294))
        (zb_X_swaps (fun r_527 fm65_counted_529 am2393_539 am2394_542 am2395_545 am23914_572 am23915_575 am23916_578 am23917_581 => zq_if (zq_eq r_527 (nat_lit 1))
        (zb_X_removals (fun r_583 fm65_counted_585 am2503_595 am2504_598 am2505_601 => zq_if (zq_eq r_583 (nat_lit 2))
        (kp (nat_lit 1))
        (kp (nat_lit 0))) x4 S0 fm65_counted_529 A2 am2393_539 am2394_542 am2395_545)
        (kp (nat_lit 0))) x3 S0 fm65_counted_473 A2 am2253_483 am2254_486 am2255_489 A14 A15 A16 A17)
        (kp (nat_lit 0))) S0 fm65_counted_417 A2 am2143_427 am2144_430 am2145_433)
        (kp (nat_lit 0))) x4 x3 S0 fm65_counted_361 A2 am2003_371 am2004_374 am2005_377 A8)
        (kp (nat_lit 0))) x3 x5 S0 fm65_counted_305 A2 am1863_315 am1864_318 am1865_321)
        (kp (nat_lit 0))) x3 x4 S0 S1 A2 A3 A4 A5)
        (kp (nat_lit 0))) = true := h
  exact zq_br h (zq_ceq rfl rfl)
        (fun h => zs_X_margin h rfl rfl (fun r_303 fm65_counted_305 am1863_315 am1864_318 am1865_321 h => zq_br h (zq_ceq rfl rfl)
        (fun h => zs_X_margin h rfl rfl (fun r_359 fm65_counted_361 am2003_371 am2004_374 am2005_377 h => zq_br h (zq_ceq rfl zq_m1)
        (fun h => zs_X_strength h rfl rfl (fun r_415 fm65_counted_417 am2143_427 am2144_430 am2145_433 am2148_442 h => zq_br h (zq_ceq rfl rfl)
        (fun h => zs_X_leader h (fun r_471 fm65_counted_473 am2253_483 am2254_486 am2255_489 h => zq_br h (zq_ceq rfl zq_m1002)
        (fun h => zs_X_swaps h rfl (fun r_527 fm65_counted_529 am2393_539 am2394_542 am2395_545 am23914_572 am23915_575 am23916_578 am23917_581 h => zq_br h (zq_ceq rfl rfl)
        (fun h => zs_X_removals h rfl (fun r_583 fm65_counted_585 am2503_595 am2504_598 am2505_601 h => zq_br h (zq_ceq rfl rfl)
        (fun h => hp _ h)
        (fun h => hp _ h)))
        (fun h => hp _ h)))
        (fun h => hp _ h)))
        (fun h => hp _ h)))
        (fun h => hp _ h)))
        (fun h => hp _ h)))
        (fun h => hp _ h)
noncomputable def zb_L_lawOf (kp : Nat → Bool) (p0 : Nat) (p1 : Nat) : Bool :=
        zq_fc (zq_sub (zq_and p0 (nat_lit 255)) (zq_mul (zq_div (zq_and p0 (nat_lit 255)) (nat_lit 120)) (nat_lit 120))) (fun y4 => zb_L_order (fun r_2 => zq_fc (zq_div r_2 (nat_lit 625)) (fun x3_4 => zq_fc (zq_sub (zq_div r_2 (nat_lit 125)) (zq_mul (zq_div (zq_div r_2 (nat_lit 125)) (nat_lit 5)) (nat_lit 5))) (fun x4_7 => zq_fc (zq_sub (zq_div r_2 (nat_lit 25)) (zq_mul (zq_div (zq_div r_2 (nat_lit 25)) (nat_lit 5)) (nat_lit 5))) (fun x5_10 => zq_fc (zq_sub r_2 (zq_mul (zq_div r_2 (nat_lit 25)) (nat_lit 25))) (fun x6_12 => zq_fc (zq_sub (zq_and p1 (nat_lit 255)) (zq_mul (zq_div (zq_and p1 (nat_lit 255)) (nat_lit 17)) (nat_lit 17))) (fun x7_14 => zq_fc (zq_or (zq_or (zq_shl (nat_lit 1) x3_4) (zq_shl (nat_lit 1) x4_7)) (zq_shl (nat_lit 1) x5_10)) (fun x8_15 => zb_X_ballot (fun r_78 fm65_count_79 fm65_counted_80 am771_84 am772_87 => zq_if (zq_eq r_78 (nat_lit 1))
        (zq_fc (zq_add (zq_add (zq_add (zq_mul (nat_lit 625) x4_7) (zq_mul (nat_lit 125) x5_10)) (zq_mul (nat_lit 25) x3_4)) x6_12) (fun y3 => zb_X_ballot (fun r_134 fm65_count_135 fm65_counted_136 am1081_140 am1082_143 => zq_if (zq_eq r_134 (nat_lit 2))
        (zq_fc (zq_add (zq_add (zq_add (zq_mul (nat_lit 625) x5_10) (zq_mul (nat_lit 125) x3_4)) (zq_mul (nat_lit 25) x4_7)) x6_12) (fun y2 => zb_X_ballot (fun r_190 fm65_count_191 fm65_counted_192 am1391_196 am1392_199 => zq_if (zq_eq r_190 (nat_lit 3))
        (zb_X_winners (fun r_246 fm65_counted_248 fm65_coupleCount_249 am1523_258 am1524_261 am1525_264 am1526_267 am1527_270 am1528_273 am1529_276 am15210_279 am15211_282 am15212_285 am15213_288 am15214_291 am15215_294 am15216_297 am15217_300 => zq_if (zq_eq x7_14 (nat_lit 1))
        (zq_fc (zq_and (nat_lit 31) (zq_xor (zq_shl (nat_lit 1) (zq_sub r_2 (zq_mul (zq_div r_2 (nat_lit 5)) (nat_lit 5)))) (nat_lit 4294967295))) (fun y1 => zb_L_lawOf_176 kp x3_4 x4_7 x5_10 y1 r_246 fm65_count_191 fm65_counted_248 am1392_199 am1523_258 am1524_261 am1525_264 am1528_273 am15214_291 am15215_294 am15216_297 am15217_300))
        (zb_L_lawOf_176 kp x3_4 x4_7 x5_10 x8_15 r_246 fm65_count_191 fm65_counted_248 am1392_199 am1523_258 am1524_261 am1525_264 am1528_273 am15214_291 am15215_294 am15216_297 am15217_300)) x7_14 fm65_count_191 fm65_counted_192 (nat_lit 0) am1392_199 (nat_lit 0) (nat_lit 0) (nat_lit 0) (nat_lit 0) (nat_lit 0) (nat_lit 0) (nat_lit 0) (nat_lit 0) (nat_lit 0) (nat_lit 0) (nat_lit 0) (nat_lit 0) (nat_lit 0) (nat_lit 0) (nat_lit 0))
        (kp (nat_lit 0))) y2 fm65_count_135 fm65_counted_136 am1081_140 am1082_143))
        (kp (nat_lit 0))) y3 fm65_count_79 fm65_counted_80 am771_84 am772_87))
        (kp (nat_lit 0))) r_2 (nat_lit 0) (nat_lit 0) (nat_lit 0) (nat_lit 0)))))))) y4)
theorem zs_L_lawOf {post : Int32 → St0 → Prop} {kp : Nat → Bool} {p0 : Nat} {p1 : Nat} {mc : Nat} {ms : Nat} {e_p0 : Int32} {e_p1 : Int32} (h : zb_L_lawOf kp p0 p1 = true) (q_p0 : e_p0 = nI p0) (q_p1 : e_p1 = nI p1) (hp : ∀ r : Nat, kp r = true → post (nI r) ()) (hmc : 18 ≤ mc) (hms : 4864 ≤ ms) : wpL_lawOf post mc ms () e_p0 e_p1 := by
  subst q_p0; subst q_p1; have h : (zq_fc (zq_sub (zq_and p0 (nat_lit 255)) (zq_mul (zq_div (zq_and p0 (nat_lit 255)) (nat_lit 120)) (nat_lit 120))) (fun y4 => zb_L_order (fun r_2 => zq_fc (zq_div r_2 (nat_lit 625)) (fun x3_4 => zq_fc (zq_sub (zq_div r_2 (nat_lit 125)) (zq_mul (zq_div (zq_div r_2 (nat_lit 125)) (nat_lit 5)) (nat_lit 5))) (fun x4_7 => zq_fc (zq_sub (zq_div r_2 (nat_lit 25)) (zq_mul (zq_div (zq_div r_2 (nat_lit 25)) (nat_lit 5)) (nat_lit 5))) (fun x5_10 => zq_fc (zq_sub r_2 (zq_mul (zq_div r_2 (nat_lit 25)) (nat_lit 25))) (fun x6_12 => zq_fc (zq_sub (zq_and p1 (nat_lit 255)) (zq_mul (zq_div (zq_and p1 (nat_lit 255)) (nat_lit 17)) (nat_lit 17))) (fun x7_14 => zq_fc (zq_or (zq_or (zq_shl (nat_lit 1) x3_4) (zq_shl (nat_lit 1) x4_7)) (zq_shl (nat_lit 1) x5_10)) (fun x8_15 => zb_X_ballot (fun r_78 fm65_count_79 fm65_counted_80 am771_84 am772_87 => zq_if (zq_eq r_78 (nat_lit 1))
        (zq_fc (zq_add (zq_add (zq_add (zq_mul (nat_lit 625) x4_7) (zq_mul (nat_lit 125) x5_10)) (zq_mul (nat_lit 25) x3_4)) x6_12) (fun y3 => zb_X_ballot (fun r_134 fm65_count_135 fm65_counted_136 am1081_140 am1082_143 => zq_if (zq_eq r_134 (nat_lit 2))
        (zq_fc (zq_add (zq_add (zq_add (zq_mul (nat_lit 625) x5_10) (zq_mul (nat_lit 125) x3_4)) (zq_mul (nat_lit 25) x4_7)) x6_12) (fun y2 => zb_X_ballot (fun r_190 fm65_count_191 fm65_counted_192 am1391_196 am1392_199 => zq_if (zq_eq r_190 (nat_lit 3))
        (zb_X_winners (fun r_246 fm65_counted_248 fm65_coupleCount_249 am1523_258 am1524_261 am1525_264 am1526_267 am1527_270 am1528_273 am1529_276 am15210_279 am15211_282 am15212_285 am15213_288 am15214_291 am15215_294 am15216_297 am15217_300 => zq_if (zq_eq x7_14 (nat_lit 1))
        (zq_fc (zq_and (nat_lit 31) (zq_xor (zq_shl (nat_lit 1) (zq_sub r_2 (zq_mul (zq_div r_2 (nat_lit 5)) (nat_lit 5)))) (nat_lit 4294967295))) (fun y1 => zb_L_lawOf_176 kp x3_4 x4_7 x5_10 y1 r_246 fm65_count_191 fm65_counted_248 am1392_199 am1523_258 am1524_261 am1525_264 am1528_273 am15214_291 am15215_294 am15216_297 am15217_300))
        (zb_L_lawOf_176 kp x3_4 x4_7 x5_10 x8_15 r_246 fm65_count_191 fm65_counted_248 am1392_199 am1523_258 am1524_261 am1525_264 am1528_273 am15214_291 am15215_294 am15216_297 am15217_300)) x7_14 fm65_count_191 fm65_counted_192 (nat_lit 0) am1392_199 (nat_lit 0) (nat_lit 0) (nat_lit 0) (nat_lit 0) (nat_lit 0) (nat_lit 0) (nat_lit 0) (nat_lit 0) (nat_lit 0) (nat_lit 0) (nat_lit 0) (nat_lit 0) (nat_lit 0) (nat_lit 0) (nat_lit 0))
        (kp (nat_lit 0))) y2 fm65_count_135 fm65_counted_136 am1081_140 am1082_143))
        (kp (nat_lit 0))) y3 fm65_count_79 fm65_counted_80 am771_84 am772_87))
        (kp (nat_lit 0))) r_2 (nat_lit 0) (nat_lit 0) (nat_lit 0) (nat_lit 0)))))))) y4)) = true := h
  exact And.intro (by decide) (have h := zq_fe h; zs_L_order h (zq_hsub (zq_hand rfl rfl) (zq_hmul (zq_hdiv (zq_hand rfl rfl) rfl) rfl)) (fun r_2 h => And.intro (by decide) (zq_ly h (zq_hdiv rfl rfl) (fun x3_4 h => And.intro (by decide) (And.intro (by decide) (zq_ly h (zq_hsub (zq_hdiv rfl rfl) (zq_hmul (zq_hdiv (zq_hdiv rfl rfl) rfl) rfl)) (fun x4_7 h => And.intro (by decide) (And.intro (by decide) (zq_ly h (zq_hsub (zq_hdiv rfl rfl) (zq_hmul (zq_hdiv (zq_hdiv rfl rfl) rfl) rfl)) (fun x5_10 h => And.intro (by decide) (zq_ly h (zq_hsub rfl (zq_hmul (zq_hdiv rfl rfl) rfl)) (fun x6_12 h => And.intro (by decide) (zq_ly h (zq_hsub (zq_hand rfl rfl) (zq_hmul (zq_hdiv (zq_hand rfl rfl) rfl) rfl)) (fun x7_14 h => zq_ly h (zq_hor (zq_hor (zq_hshl rfl rfl) (zq_hshl rfl rfl)) (zq_hshl rfl rfl)) (fun x8_15 h => And.intro (by omega) (And.intro (by omega) (Exists.intro 17 (Exists.intro 4844 (And.intro (by omega) (And.intro (by omega) (zs_init (zs_X_ballot h rfl (fun r_78 fm65_count_79 fm65_counted_80 am771_84 am772_87 h => zq_br h (zq_ceq rfl rfl)
        (fun h => have h := zq_fe h; zs_X_ballot h (zq_hadd (zq_hadd (zq_hadd (zq_hmul rfl rfl) (zq_hmul rfl rfl)) (zq_hmul rfl rfl)) rfl) (fun r_134 fm65_count_135 fm65_counted_136 am1081_140 am1082_143 h => zq_br h (zq_ceq rfl rfl)
        (fun h => have h := zq_fe h; zs_X_ballot h (zq_hadd (zq_hadd (zq_hadd (zq_hmul rfl rfl) (zq_hmul rfl rfl)) (zq_hmul rfl rfl)) rfl) (fun r_190 fm65_count_191 fm65_counted_192 am1391_196 am1392_199 h => zq_br h (zq_ceq rfl rfl)
        (fun h => zs_X_winners h rfl (fun r_246 fm65_counted_248 fm65_coupleCount_249 am1523_258 am1524_261 am1525_264 am1526_267 am1527_270 am1528_273 am1529_276 am15210_279 am15211_282 am15212_285 am15213_288 am15214_291 am15215_294 am15216_297 am15217_300 h => zq_br h (zq_ceq rfl rfl)
        (fun h => And.intro (by decide) (have h := zq_fe h; zs_L_lawOf_176 h rfl rfl rfl (zq_hand rfl (zq_hxor (zq_hshl rfl (zq_hsub rfl (zq_hmul (zq_hdiv rfl rfl) rfl))) zq_m1)) rfl hp))
        (fun h => zs_L_lawOf_176 h rfl rfl rfl rfl rfl hp)))
        (fun h => hp _ h)))
        (fun h => hp _ h)))
        (fun h => hp _ h))))))))))))))))))))))))
end
section
/-! the cases, rule by rule -/
noncomputable def zv_c (n r : Nat) : Bool := zb_L_lawOf (fun v => Nat.beq v (nat_lit 1)) n r
theorem zv_0 : zq_all (fun n => zv_c n 0) 120 = true := by decide +kernel
theorem zv_1 : zq_all (fun n => zv_c n 1) 120 = true := by decide +kernel
theorem zv_2 : zq_all (fun n => zv_c n 2) 120 = true := by decide +kernel
theorem zv_3 : zq_all (fun n => zv_c n 3) 120 = true := by decide +kernel
theorem zv_4 : zq_all (fun n => zv_c n 4) 120 = true := by decide +kernel
theorem zv_5 : zq_all (fun n => zv_c n 5) 120 = true := by decide +kernel
theorem zv_6 : zq_all (fun n => zv_c n 6) 120 = true := by decide +kernel
theorem zv_7 : zq_all (fun n => zv_c n 7) 120 = true := by decide +kernel
theorem zv_8 : zq_all (fun n => zv_c n 8) 120 = true := by decide +kernel
end
section
/-! the cases, rule 10, in twelve pieces -/
theorem zv_10_0 : zq_all (fun n => zv_c (Nat.add 0 n) 10) 10 = true := by decide +kernel
theorem zv_10_1 : zq_all (fun n => zv_c (Nat.add 10 n) 10) 10 = true := by decide +kernel
theorem zv_10_2 : zq_all (fun n => zv_c (Nat.add 20 n) 10) 10 = true := by decide +kernel
theorem zv_10_3 : zq_all (fun n => zv_c (Nat.add 30 n) 10) 10 = true := by decide +kernel
theorem zv_10_4 : zq_all (fun n => zv_c (Nat.add 40 n) 10) 10 = true := by decide +kernel
theorem zv_10_5 : zq_all (fun n => zv_c (Nat.add 50 n) 10) 10 = true := by decide +kernel
theorem zv_10_6 : zq_all (fun n => zv_c (Nat.add 60 n) 10) 10 = true := by decide +kernel
theorem zv_10_7 : zq_all (fun n => zv_c (Nat.add 70 n) 10) 10 = true := by decide +kernel
theorem zv_10_8 : zq_all (fun n => zv_c (Nat.add 80 n) 10) 10 = true := by decide +kernel
theorem zv_10_9 : zq_all (fun n => zv_c (Nat.add 90 n) 10) 10 = true := by decide +kernel
theorem zv_10_10 : zq_all (fun n => zv_c (Nat.add 100 n) 10) 10 = true := by decide +kernel
theorem zv_10_11 : zq_all (fun n => zv_c (Nat.add 110 n) 10) 10 = true := by decide +kernel
theorem zv_add {f : Nat → Bool} {a : Nat} (h : zq_all (fun n => f (Nat.add a n)) 10 = true) (n : Nat) (h1 : a ≤ n) (h2 : n < a + 10) : f n = true := by
  have := zq_alle h (n - a) (by omega)
  rw [← show a + (n - a) = n by omega]
  exact this
theorem zv_10 (n : Nat) (hn : n < 120) : zv_c n 10 = true := by
  by_cases c0 : n < 10
  · exact zv_add (f := fun n => zv_c n 10) zv_10_0 n (by omega) (by omega)
  by_cases c1 : n < 20
  · exact zv_add (f := fun n => zv_c n 10) zv_10_1 n (by omega) (by omega)
  by_cases c2 : n < 30
  · exact zv_add (f := fun n => zv_c n 10) zv_10_2 n (by omega) (by omega)
  by_cases c3 : n < 40
  · exact zv_add (f := fun n => zv_c n 10) zv_10_3 n (by omega) (by omega)
  by_cases c4 : n < 50
  · exact zv_add (f := fun n => zv_c n 10) zv_10_4 n (by omega) (by omega)
  by_cases c5 : n < 60
  · exact zv_add (f := fun n => zv_c n 10) zv_10_5 n (by omega) (by omega)
  by_cases c6 : n < 70
  · exact zv_add (f := fun n => zv_c n 10) zv_10_6 n (by omega) (by omega)
  by_cases c7 : n < 80
  · exact zv_add (f := fun n => zv_c n 10) zv_10_7 n (by omega) (by omega)
  by_cases c8 : n < 90
  · exact zv_add (f := fun n => zv_c n 10) zv_10_8 n (by omega) (by omega)
  by_cases c9 : n < 100
  · exact zv_add (f := fun n => zv_c n 10) zv_10_9 n (by omega) (by omega)
  by_cases c10 : n < 110
  · exact zv_add (f := fun n => zv_c n 10) zv_10_10 n (by omega) (by omega)
  exact zv_add (f := fun n => zv_c n 10) zv_10_11 n (by omega) (by omega)
end
section
/-! the cases, the other rules -/
theorem zv_9 : zq_all (fun n => zv_c n 9) 120 = true := by decide +kernel
theorem zv_11 : zq_all (fun n => zv_c n 11) 120 = true := by decide +kernel
theorem zv_12 : zq_all (fun n => zv_c n 12) 120 = true := by decide +kernel
theorem zv_13 : zq_all (fun n => zv_c n 13) 120 = true := by decide +kernel
theorem zv_14 : zq_all (fun n => zv_c n 14) 120 = true := by decide +kernel
theorem zv_15 : zq_all (fun n => zv_c n 15) 120 = true := by decide +kernel
theorem zv_16 : zq_all (fun n => zv_c n 16) 120 = true := by decide +kernel
end
section
/-! all cases together -/
theorem zv_rule (n r : Nat) (hn : n < 120) (hr : r < 17) : zv_c n r = true := by
  match r, hr with
  | 0, _ => exact zq_alle zv_0 n hn
  | 1, _ => exact zq_alle zv_1 n hn
  | 2, _ => exact zq_alle zv_2 n hn
  | 3, _ => exact zq_alle zv_3 n hn
  | 4, _ => exact zq_alle zv_4 n hn
  | 5, _ => exact zq_alle zv_5 n hn
  | 6, _ => exact zq_alle zv_6 n hn
  | 7, _ => exact zq_alle zv_7 n hn
  | 8, _ => exact zq_alle zv_8 n hn
  | 9, _ => exact zq_alle zv_9 n hn
  | 10, _ => exact zv_10 n hn
  | 11, _ => exact zq_alle zv_11 n hn
  | 12, _ => exact zq_alle zv_12 n hn
  | 13, _ => exact zq_alle zv_13 n hn
  | 14, _ => exact zq_alle zv_14 n hn
  | 15, _ => exact zq_alle zv_15 n hn
  | 16, _ => exact zq_alle zv_16 n hn
  | k + 17, h => exact absurd h (by omega)
theorem zv_all (n r : Nat) (hn : n < 120) (hr : r < 17) : zb_L_lawOf (fun v => Nat.beq v (nat_lit 1)) n r = true := zv_rule n r hn hr
/-! the top: cellAt, the remainders, the owed statement -/
theorem zt_cell {post : Int32 → Prop} {L : Nat} {xs : Nat → Int32} (hL : L ≤ 2) (k : Nat) (hk : k < 2 ^ 31) (hp : ∀ r, post r) : wpL_cellAt post L xs () (nI k) := by
  refine And.intro (fun _ => hp _) (fun c => And.intro ?_ (hp _))
  have hlt : k < L := by
    rcases Nat.lt_or_ge k L with z | z
    · exact z
    · exact absurd (nI_le z hk) c
  exact vp_in_nI hlt (by omega)
theorem zt_rem (x : Int32) (d : Nat) (h0 : 0 < d) (hd : d < 2 ^ 31) : ∃ n, n < d ∧ (x &&& 255) - (x &&& 255) / nI d * nI d = nI n := by
  have h1 : x &&& 255 = nI (zq_and (zq_enc x) 255) := zq_hand (zq_nie x).symm rfl
  have h2 : zq_and (zq_enc x) 255 < 2 ^ 31 := by
    have h3 : zq_enc x &&& 255 ≤ 255 := Nat.and_le_right
    have h4 : zq_and (zq_enc x) 255 = (zq_enc x &&& 255) % 4294967296 := rfl
    omega
  exact ⟨_, Nat.mod_lt _ h0, by rw [h1]; exact pk_rem h2 h0 hd⟩
theorem zt_small : ∀ n, n < 120 → (nI n &&& 255) - (nI n &&& 255) / 120 * 120 = nI n := by decide +kernel
theorem zt_small2 : ∀ n, n < 17 → (nI n &&& 255) - (nI n &&& 255) / 17 * 17 = nI n := by decide +kernel
theorem zt_cg {post : Int32 → St0 → Prop} {mc ms : Nat} {u : St0} {p0 p1 q0 q1 : Int32} (h0 : (p0 &&& 255) - (p0 &&& 255) / 120 * 120 = (q0 &&& 255) - (q0 &&& 255) / 120 * 120) (h1 : (p1 &&& 255) - (p1 &&& 255) / 17 * 17 = (q1 &&& 255) - (q1 &&& 255) / 17 * 17) (h : wpL_lawOf post mc ms u q0 q1) : wpL_lawOf post mc ms u p0 p1 := by
  unfold wpL_lawOf at h ⊢
  rw [h0, h1]
  exact h
theorem zt_law (p0 p1 : Int32) : wpL_lawOf (fun r _ => r = 1) 666 10640 () p0 p1 := by
  obtain ⟨n, hn, en⟩ := zt_rem p0 120 (by decide) (by decide)
  obtain ⟨r, hr, er⟩ := zt_rem p1 17 (by decide) (by decide)
  refine zt_cg (q0 := nI n) (q1 := nI r) (en.trans (zt_small n hn).symm) (er.trans (zt_small2 r hr).symm) ?_
  refine zs_L_lawOf (kp := fun v => Nat.beq v (nat_lit 1)) (zv_all n r hn hr) rfl rfl (fun v hv => ?_) (by decide) (by decide)
  have e := Nat.eq_of_beq_eq_true hv
  rw [e]
  rfl
theorem i_vc (xs : Nat → Int32) (L : Nat) (hL : L ≤ 2) : wpL_law (fun r => r = 1) L xs :=
  zt_cell hL 0 (by decide) (fun r1 => zt_cell hL 1 (by decide) (fun r2 => ⟨666, 10640, by decide, by decide, zt_law r1 r2⟩))
end

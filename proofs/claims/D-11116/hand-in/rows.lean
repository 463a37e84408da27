section
/-- an array of ten ints as one number: fields of 32 bits -/
def bd_gt (A k : Nat) : Nat := Nat.mod (Nat.shiftRight A (Nat.mul 32 k)) 4294967296
def bd_st (A k v : Nat) : Nat := Nat.xor A (Nat.shiftLeft (Nat.xor (bd_gt A k) (Nat.mod v 4294967296)) (Nat.mul 32 k))
def bd_ar (A : Nat) : Nat → Int32 := fun k => nI (bd_gt A k)
def bd_cl (v : Nat) : Nat := cond (Nat.blt (Nat.mod v 4294967296) 2147483648) (Nat.mod v 4294967296) 0
def bd_of (v : Nat) : Nat := Nat.mod (Nat.add v 2147483648) 4294967296
def bd_le (a b : Nat) : Bool := Nat.ble (bd_of a) (bd_of b)
def bd_lt (a b : Nat) : Bool := Nat.blt (bd_of a) (bd_of b)
def bd_eq (a b : Nat) : Bool := Nat.beq (Nat.mod a 4294967296) (Nat.mod b 4294967296)
def bd_in (v : Nat) : Bool := Nat.blt (Nat.mod v 4294967296) 10
def bd_sb (a b : Nat) : Nat := Nat.add a (Nat.sub 4294967296 (Nat.mod b 4294967296))
def bd_dv (a : Nat) : Nat := (nI a / 2).toBitVec.toNat
theorem bd_toNat (v : Nat) : (nI v).toBitVec.toNat = v % 4294967296 := BitVec.toNat_ofNat v 32
theorem bd_ext {x : Int32} {v : Nat} (h : x.toBitVec.toNat = v % 4294967296) : x = nI v :=
  Int32.toBitVec.inj (BitVec.eq_of_toNat_eq (h.trans (bd_toNat v).symm))
theorem bd_mod (v : Nat) : nI (v % 4294967296) = nI v := bd_ext (by rw [bd_toNat]; omega)
theorem bd_toInt (v : Nat) : (nI v).toInt = (((v + 2147483648) % 4294967296 : Nat) : Int) - 2147483648 := by
  show (nI v).toBitVec.toInt = _
  rw [BitVec.toInt_eq_toNat_cond, bd_toNat]
  split <;> omega
theorem bd_of_eq (v : Nat) : bd_of v = (v + 2147483648) % 4294967296 := rfl
/-! the bits of a field -/
theorem bd_gt_bit (A k i : Nat) : (bd_gt A k).testBit i = (decide (i < 32) && A.testBit (32 * k + i)) := by
  show ((A >>> (32 * k)) % 2 ^ 32).testBit i = _
  rw [Nat.testBit_mod_two_pow, Nat.testBit_shiftRight]
theorem bd_gt_lt (A k : Nat) : bd_gt A k < 2 ^ 32 := Nat.mod_lt _ (by decide)
theorem bd_st_bit (A k v i : Nat) : (bd_st A k v).testBit i = (A.testBit i ^^ (decide (i ≥ 32 * k) && ((bd_gt A k).testBit (i - 32 * k) ^^ (v % 2 ^ 32).testBit (i - 32 * k)))) := by
  show (A ^^^ ((bd_gt A k ^^^ (v % 2 ^ 32)) <<< (32 * k))).testBit i = _
  rw [Nat.testBit_xor, Nat.testBit_shiftLeft, Nat.testBit_xor]
theorem bd_gt_same (A k v : Nat) : bd_gt (bd_st A k v) k = v % 4294967296 := by
  apply Nat.eq_of_testBit_eq
  intro i
  show (bd_gt (bd_st A k v) k).testBit i = (v % 2 ^ 32).testBit i
  rw [bd_gt_bit, bd_st_bit, bd_gt_bit, Nat.testBit_mod_two_pow, Nat.testBit_mod_two_pow]
  rw [show 32 * k + i - 32 * k = i by omega]
  by_cases hi : i < 32
  · simp [hi]
  · simp [hi]
theorem bd_gt_other (A k v j : Nat) (h : ¬ j = k) : bd_gt (bd_st A k v) j = bd_gt A j := by
  apply Nat.eq_of_testBit_eq
  intro i
  rw [bd_gt_bit, bd_gt_bit, bd_st_bit]
  by_cases hi : i < 32
  · by_cases hk : 32 * j + i ≥ 32 * k
    · have e : 32 * j + i - 32 * k ≥ 32 := by omega
      have e1 : (bd_gt A k).testBit (32 * j + i - 32 * k) = false := by
        rw [bd_gt_bit]
        have : ¬ (32 * j + i - 32 * k < 32) := by omega
        simp [this]
      have e2 : (v % 2 ^ 32).testBit (32 * j + i - 32 * k) = false := by
        rw [Nat.testBit_mod_two_pow]
        have : ¬ (32 * j + i - 32 * k < 32) := by omega
        simp [this]
      rw [e1, e2]
      simp
    · simp [hk]
  · simp [hi]
theorem bd_upd (A k v : Nat) : upd (bd_ar A) k (nI v) = bd_ar (bd_st A k v) := by
  funext j
  show (if j = k then nI v else nI (bd_gt A j)) = nI (bd_gt (bd_st A k v) j)
  by_cases e : j = k
  · rw [if_pos e, e, bd_gt_same]
    exact (bd_mod v).symm
  · rw [if_neg e, bd_gt_other A k v j e]
theorem bd_zero : (fun _ => 0 : Nat → Int32) = bd_ar 0 := by
  funext j
  show (0 : Int32) = nI (((0 : Nat) >>> (32 * j)) % 4294967296)
  rw [Nat.zero_shiftRight]
  rfl
/-! ints by their numbers, no premise -/
theorem hm_0 : (0 : Int32) = nI 0 := rfl
theorem hm_1 : (1 : Int32) = nI 1 := rfl
theorem hm_2 : (2 : Int32) = nI 2 := rfl
theorem hm_9 : (9 : Int32) = nI 9 := rfl
theorem hm_10 : (10 : Int32) = nI 10 := rfl
theorem hm_11 : (11 : Int32) = nI 11 := rfl
theorem hm_1023 : (1023 : Int32) = nI 1023 := rfl
theorem hm_m1 : (-1 : Int32) = nI 4294967295 := by decide
theorem hm_20 : ¬ (2 : Int32) = 0 := by decide
theorem hm_add {x y : Int32} {a b : Nat} (hx : x = nI a) (hy : y = nI b) : x + y = nI (Nat.add a b) := by
  subst hx; subst hy; exact nI_add a b
theorem hm_sub {x y : Int32} {a b : Nat} (hx : x = nI a) (hy : y = nI b) : x - y = nI (bd_sb a b) := by
  subst hx; subst hy
  apply bd_ext
  show ((nI a).toBitVec - (nI b).toBitVec).toNat = (a + (4294967296 - b % 4294967296)) % 4294967296
  rw [BitVec.toNat_sub, bd_toNat, bd_toNat]
  omega
theorem hm_and {x y : Int32} {a b : Nat} (hx : x = nI a) (hy : y = nI b) : x &&& y = nI (Nat.land a b) := by
  subst hx; subst hy
  apply bd_ext
  show (nI a).toBitVec.toNat &&& (nI b).toBitVec.toNat = (a &&& b) % 2 ^ 32
  rw [bd_toNat, bd_toNat, Nat.and_mod_two_pow]
theorem hm_or {x y : Int32} {a b : Nat} (hx : x = nI a) (hy : y = nI b) : x ||| y = nI (Nat.lor a b) := by
  subst hx; subst hy
  apply bd_ext
  show (nI a).toBitVec.toNat ||| (nI b).toBitVec.toNat = (a ||| b) % 2 ^ 32
  rw [bd_toNat, bd_toNat, Nat.or_mod_two_pow]
theorem hm_xor {x y : Int32} {a b : Nat} (hx : x = nI a) (hy : y = nI b) : x ^^^ y = nI (Nat.xor a b) := by
  subst hx; subst hy
  apply bd_ext
  show (nI a).toBitVec.toNat ^^^ (nI b).toBitVec.toNat = (a ^^^ b) % 2 ^ 32
  rw [bd_toNat, bd_toNat, Nat.xor_mod_two_pow]
theorem bd_and31 (b : Nat) : nI b &&& 31 = nI (b % 32) := by
  rw [show (31 : Int32) = nI 31 from rfl, hm_and rfl rfl]
  show nI (b &&& (2 ^ 5 - 1)) = _
  rw [Nat.and_two_pow_sub_one_eq_mod]
theorem bd_sm : ∀ k, k < 32 → ((nI k).toBitVec.smod 32).toNat = k := by decide
theorem hm_shl {x y : Int32} {a b : Nat} (hx : x = nI a) (hy : y = nI b) : x <<< (y &&& 31) = nI (Nat.shiftLeft a (Nat.mod b 32)) := by
  subst hx; subst hy
  apply bd_ext
  rw [bd_and31, pk_shl (nI a) (nI (b % 32)) (b % 32) (bd_sm _ (Nat.mod_lt _ (by decide))), bd_toNat]
  show _ = (a <<< (b % 32)) % 4294967296
  rw [Nat.shiftLeft_eq]
  exact Nat.mod_mul_mod a (2 ^ (b % 32)) (2 ^ 32)
theorem hm_ushr {x y : Int32} {a b : Nat} (hx : x = nI a) (hy : y = nI b) : (x.toUInt32 >>> (y.toUInt32 &&& Int32.toUInt32 31)).toInt32 = nI (Nat.shiftRight (Nat.mod a 4294967296) (Nat.mod b 32)) := by
  subst hx; subst hy
  apply bd_ext
  have hs : (((nI b).toUInt32 &&& Int32.toUInt32 31).toBitVec % 32).toNat = b % 32 := by
    show ((nI b).toBitVec.toNat &&& (2 ^ 5 - 1)) % 32 = b % 32
    rw [Nat.and_two_pow_sub_one_eq_mod, bd_toNat]
    omega
  rw [pk_ushr (nI a) (nI b) (b % 32) hs, bd_toNat]
  show _ = ((a % 4294967296) >>> (b % 32)) % 4294967296
  rw [Nat.shiftRight_eq_div_pow]
  have h1 : a % 4294967296 < 4294967296 := Nat.mod_lt _ (by decide)
  exact (Nat.mod_eq_of_lt (Nat.lt_of_le_of_lt (Nat.div_le_self _ _) h1)).symm
theorem hm_cl {x : Int32} {a : Nat} (hx : x = nI a) : x.toNatClampNeg = bd_cl a := by
  subst hx
  show (nI a).toInt.toNat = cond (Nat.blt (a % 4294967296) 2147483648) (a % 4294967296) 0
  rw [bd_toInt]
  by_cases h : a % 4294967296 < 2147483648
  · rw [show Nat.blt (a % 4294967296) 2147483648 = true from by rw [Nat.blt_eq]; exact h]
    show _ = a % 4294967296
    omega
  · rw [show Nat.blt (a % 4294967296) 2147483648 = false from by
      rw [← Bool.not_eq_true, Nat.blt_eq]; exact h]
    show _ = 0
    omega
theorem hm_get {f : Nat → Int32} {A : Nat} {i : Int32} {k : Nat} (hf : f = bd_ar A) (hi : i = nI k) : f i.toNatClampNeg = nI (bd_gt A (bd_cl k)) := by
  subst hf
  rw [hm_cl hi]
  rfl
theorem hm_upd {f : Nat → Int32} {A : Nat} {i x : Int32} {k v : Nat} (hf : f = bd_ar A) (hi : i = nI k) (hx : x = nI v) : upd f i.toNatClampNeg x = bd_ar (bd_st A (bd_cl k) v) := by
  subst hf; subst hx
  rw [hm_cl hi]
  exact bd_upd A (bd_cl k) v
theorem hm_div {x : Int32} {a : Nat} (hx : x = nI a) : x / 2 = nI (bd_dv a) := by
  subst hx
  exact bd_ext (Nat.mod_eq_of_lt (nI a / 2).toBitVec.isLt).symm
theorem hm_le {x y : Int32} {a b : Nat} (hx : x = nI a) (hy : y = nI b) : bd_le a b = true ↔ x ≤ y := by
  subst hx; subst hy
  rw [Int32.le_iff_toInt_le, bd_toInt, bd_toInt]
  show Nat.ble ((a + 2147483648) % 4294967296) ((b + 2147483648) % 4294967296) = true ↔ _
  rw [Nat.ble_eq]
  omega
theorem hm_lt {x y : Int32} {a b : Nat} (hx : x = nI a) (hy : y = nI b) : bd_lt a b = true ↔ x < y := by
  subst hx; subst hy
  rw [Int32.lt_iff_toInt_lt, bd_toInt, bd_toInt]
  show Nat.blt ((a + 2147483648) % 4294967296) ((b + 2147483648) % 4294967296) = true ↔ _
  rw [Nat.blt_eq]
  omega
theorem hm_eq {x y : Int32} {a b : Nat} (hx : x = nI a) (hy : y = nI b) : bd_eq a b = true ↔ x = y := by
  subst hx; subst hy
  show Nat.beq (a % 4294967296) (b % 4294967296) = true ↔ _
  rw [Nat.beq_eq]
  constructor
  · intro h
    rw [← bd_mod a, ← bd_mod b, h]
  · intro h
    rw [← bd_toNat a, ← bd_toNat b, h]
/-! a predicate's tree by its mirror -/
theorem cb_br {c a b : Bool} {C A B : Prop} (h : cond c a b = true) (hc : c = true ↔ C) (ha : a = true → A) (hb : b = true → B) : (C → A) ∧ (¬ C → B) := by
  cases c with
  | true => exact ⟨fun _ => ha h, fun z => absurd (hc.mp rfl) z⟩
  | false => exact ⟨fun z => absurd (hc.mpr z) Bool.false_ne_true, fun _ => hb h⟩
theorem cb_in {v : Nat} {a : Bool} {x : Int32} {A : Prop} (h : cond (bd_in v) a false = true) (hx : x = nI v) (ha : a = true → A) : vp_in x 10 ∧ A := by
  cases hb : bd_in v with
  | false => rw [hb] at h; exact absurd h Bool.false_ne_true
  | true =>
    rw [hb] at h
    refine ⟨?_, ha h⟩
    have h2 : Nat.blt (v % 4294967296) 10 = true := hb
    rw [Nat.blt_eq] at h2
    rw [vp_in_iff, hx, bd_toInt]
    omega
theorem cb_eq {α : Sort _} {F : α → Prop} {x y : α} (e : x = y) (h : F y) : F x := by
  subst e; exact h
end
section
def bd_pX_makeOuter (post : Nat → Nat → Nat → Nat → Nat → Nat → Nat → Nat → Nat → Nat → Bool) (f0_absent : Nat) (f0_queueEnd : Nat) (a1 : Nat) (a2 : Nat) (a3 : Nat) (a4 : Nat) (a5 : Nat) (a6 : Nat) (a7 : Nat) (a8 : Nat) (p0 : Nat) : Bool := (cond (bd_in p0) (cond (bd_eq (bd_gt a3 (bd_cl p0)) 0) (cond (bd_in p0) ((fun a3_4 : Nat => (cond (bd_in f0_queueEnd) ((fun a8_6 : Nat => ((fun f_7 : Nat => (post f0_absent f_7 a1 a2 a3_4 a4 a5 a6 a7 a8_6)) (Nat.add f0_queueEnd 1))) (bd_st a8 (bd_cl f0_queueEnd) p0)) false)) (bd_st a3 (bd_cl p0) 1)) false) (post f0_absent f0_queueEnd a1 a2 a3 a4 a5 a6 a7 a8)) false)
theorem sd_pX_makeOuter {post : St2 → Prop} {q_post : Nat → Nat → Nat → Nat → Nat → Nat → Nat → Nat → Nat → Nat → Bool} {f0_absent f0_queueEnd a1 a2 a3 a4 a5 a6 a7 a8 : Nat} {w_p0 : Int32} {p0 : Nat} (h : bd_pX_makeOuter q_post f0_absent f0_queueEnd a1 a2 a3 a4 a5 a6 a7 a8 p0 = true) (h_post : ∀ v0 v1 v2 v3 v4 v5 v6 v7 v8 v9 : Nat, q_post v0 v1 v2 v3 v4 v5 v6 v7 v8 v9 = true → post ((nI v0), (nI v1), (bd_ar v2), (bd_ar v3), (bd_ar v4), (bd_ar v5), (bd_ar v6), (bd_ar v7), (bd_ar v8), (bd_ar v9))) (e_p0 : w_p0 = nI p0) : wpX_makeOuter post ((nI f0_absent), (nI f0_queueEnd), (bd_ar a1), (bd_ar a2), (bd_ar a3), (bd_ar a4), (bd_ar a5), (bd_ar a6), (bd_ar a7), (bd_ar a8)) w_p0 := by
  subst e_p0
  unfold wpX_makeOuter
  unfold bd_pX_makeOuter at h
  exact (cb_in h rfl (fun h => (cb_br h (hm_eq (hm_get rfl rfl) hm_0) (fun h => (cb_in h rfl (fun h => (nm_r (hm_upd rfl rfl hm_1) (cb_in h rfl (fun h => (nm_r (hm_upd rfl rfl rfl) (nm_r (hm_add rfl hm_1) (h_post _ _ _ _ _ _ _ _ _ _ h))))))))) (fun h => (h_post _ _ _ _ _ _ _ _ _ _ h)))))
def bd_pX_isLine (post : Nat → Bool) (f0_absent : Nat) (f0_queueEnd : Nat) (a1 : Nat) (a2 : Nat) (a3 : Nat) (a4 : Nat) (a5 : Nat) (a6 : Nat) (a7 : Nat) (a8 : Nat) (p0 : Nat) (p1 : Nat) : Bool := (cond (bd_in p0) (cond (bd_eq (Nat.land (Nat.shiftRight (Nat.mod (bd_gt a1 (bd_cl p0)) 4294967296) (Nat.mod p1 32)) 1) 0) (post 0) (post 1)) false)
theorem sd_pX_isLine {post : Int32 → Prop} {q_post : Nat → Bool} {f0_absent f0_queueEnd a1 a2 a3 a4 a5 a6 a7 a8 : Nat} {w_p0 : Int32} {p0 : Nat} {w_p1 : Int32} {p1 : Nat} (h : bd_pX_isLine q_post f0_absent f0_queueEnd a1 a2 a3 a4 a5 a6 a7 a8 p0 p1 = true) (h_post : ∀ v0 : Nat, q_post v0 = true → post (nI v0)) (e_p0 : w_p0 = nI p0) (e_p1 : w_p1 = nI p1) : wpX_isLine post ((nI f0_absent), (nI f0_queueEnd), (bd_ar a1), (bd_ar a2), (bd_ar a3), (bd_ar a4), (bd_ar a5), (bd_ar a6), (bd_ar a7), (bd_ar a8)) w_p0 w_p1 := by
  subst e_p0
  subst e_p1
  unfold wpX_isLine
  unfold bd_pX_isLine at h
  exact (cb_in h rfl (fun h => (cb_br h (hm_eq (hm_and (hm_ushr (hm_get rfl rfl) rfl) hm_1) hm_0) (fun h => (cb_eq (F := fun z => post z) hm_0 (h_post _ h))) (fun h => (cb_eq (F := fun z => post z) hm_1 (h_post _ h))))))
def bd_X_meetingBase_95 (post : Nat → Nat → Nat → Nat → Nat → Nat → Nat → Nat → Nat → Nat → Nat → Bool) (f0_absent : Nat) (f0_queueEnd : Nat) (a1 : Nat) (a2 : Nat) (a3 : Nat) (a4 : Nat) (a5 : Nat) (a6 : Nat) (a7 : Nat) (a8 : Nat) : Nat → Nat → Nat → Bool
  | 0 => fun _ _ => false
  | n + 1 => fun x4 x5 => (cond (bd_le 10 x5) (post x4 f0_absent f0_queueEnd a1 a2 a3 a4 a5 a6 a7 a8) (cond (bd_in x4) (cond (bd_eq (bd_gt a7 (bd_cl x4)) 0) (cond (bd_in x4) (cond (bd_in (bd_gt a2 (bd_cl x4))) (cond (bd_in (bd_gt a4 (bd_cl (bd_gt a2 (bd_cl x4))))) ((fun x4_15 : Nat => ((fun x5_16 : Nat => (bd_X_meetingBase_95 post f0_absent f0_queueEnd a1 a2 a3 a4 a5 a6 a7 a8 n x4_15 x5_16)) (Nat.add x5 1))) (bd_gt a5 (bd_cl (bd_gt a4 (bd_cl (bd_gt a2 (bd_cl x4))))))) false) false) false) (post x4 f0_absent f0_queueEnd a1 a2 a3 a4 a5 a6 a7 a8)) false))
theorem sd_X_meetingBase_95 {post : Int32 → St2 → Prop} {q_post : Nat → Nat → Nat → Nat → Nat → Nat → Nat → Nat → Nat → Nat → Nat → Bool} {f0_absent : Nat} {f0_queueEnd : Nat} {a1 : Nat} {a2 : Nat} {a3 : Nat} {a4 : Nat} {a5 : Nat} {a6 : Nat} {a7 : Nat} {a8 : Nat} (h_post : ∀ v0 v1 v2 v3 v4 v5 v6 v7 v8 v9 v10 : Nat, q_post v0 v1 v2 v3 v4 v5 v6 v7 v8 v9 v10 = true → post (nI v0) ((nI v1), (nI v2), (bd_ar v3), (bd_ar v4), (bd_ar v5), (bd_ar v6), (bd_ar v7), (bd_ar v8), (bd_ar v9), (bd_ar v10))) : ∀ (n : Nat) (x4 x5 : Nat), bd_X_meetingBase_95 q_post f0_absent f0_queueEnd a1 a2 a3 a4 a5 a6 a7 a8 n x4 x5 = true → wX_meetingBase_95 post (nI f0_absent) (nI f0_queueEnd) (bd_ar a1) (bd_ar a2) (bd_ar a3) (bd_ar a4) (bd_ar a5) (bd_ar a6) (bd_ar a7) (bd_ar a8) n (nI x4) (nI x5) := by
  intro n
  induction n with
  | zero => intro x4 x5 h; exact absurd h Bool.false_ne_true
  | succ n ih =>
    intro x4 x5 h
    unfold bd_X_meetingBase_95 at h
    exact (cb_br h (hm_le hm_10 rfl) (fun h => (h_post _ _ _ _ _ _ _ _ _ _ _ h)) (fun h => (cb_in h rfl (fun h => (cb_br h (hm_eq (hm_get rfl rfl) hm_0) (fun h => (cb_in h rfl (fun h => (cb_in h (hm_get rfl rfl) (fun h => (cb_in h (hm_get rfl (hm_get rfl rfl)) (fun h => (nm_r (hm_get rfl (hm_get rfl (hm_get rfl rfl))) (nm_r (hm_add rfl hm_1) (ih _ _ h)))))))))) (fun h => (h_post _ _ _ _ _ _ _ _ _ _ _ h)))))))
def bd_X_meetingBase_38 (post : Nat → Nat → Nat → Nat → Nat → Nat → Nat → Nat → Nat → Nat → Nat → Bool) (x2 : Nat) (f0_absent : Nat) (f0_queueEnd : Nat) : Nat → Nat → Nat → Nat → Nat → Nat → Nat → Nat → Nat → Nat → Nat → Bool
  | 0 => fun _ _ _ _ _ _ _ _ _ _ => false
  | n + 1 => fun x3 x4 a1 a2 a3 a4 a5 a6 a7 a8 => (cond (bd_le 10 x4) (cond (bd_in x2) ((fun x4_8 : Nat => (bd_X_meetingBase_95 post f0_absent f0_queueEnd a1 a2 a3 a4 a5 a6 a7 a8 12 x4_8 0)) (bd_gt a5 (bd_cl x2))) false) (cond (bd_in x3) (cond (bd_lt (bd_gt a2 (bd_cl x3)) 0) (cond (bd_in x2) ((fun x4_20 : Nat => (bd_X_meetingBase_95 post f0_absent f0_queueEnd a1 a2 a3 a4 a5 a6 a7 a8 12 x4_20 0)) (bd_gt a5 (bd_cl x2))) false) (cond (bd_in x3) (cond (bd_in (bd_gt a2 (bd_cl x3))) (cond (bd_in (bd_gt a4 (bd_cl (bd_gt a2 (bd_cl x3))))) ((fun x3_24 : Nat => (cond (bd_in x3_24) ((fun a7_26 : Nat => ((fun x4_27 : Nat => (bd_X_meetingBase_38 post x2 f0_absent f0_queueEnd n x3_24 x4_27 a1 a2 a3 a4 a5 a6 a7_26 a8)) (Nat.add x4 1))) (bd_st a7 (bd_cl x3_24) 1)) false)) (bd_gt a5 (bd_cl (bd_gt a4 (bd_cl (bd_gt a2 (bd_cl x3))))))) false) false) false)) false))
theorem sd_X_meetingBase_38 {post : Int32 → St2 → Prop} {q_post : Nat → Nat → Nat → Nat → Nat → Nat → Nat → Nat → Nat → Nat → Nat → Bool} {x2 : Nat} {f0_absent : Nat} {f0_queueEnd : Nat} (h_post : ∀ v0 v1 v2 v3 v4 v5 v6 v7 v8 v9 v10 : Nat, q_post v0 v1 v2 v3 v4 v5 v6 v7 v8 v9 v10 = true → post (nI v0) ((nI v1), (nI v2), (bd_ar v3), (bd_ar v4), (bd_ar v5), (bd_ar v6), (bd_ar v7), (bd_ar v8), (bd_ar v9), (bd_ar v10))) : ∀ (n : Nat) (x3 x4 a1 a2 a3 a4 a5 a6 a7 a8 : Nat), bd_X_meetingBase_38 q_post x2 f0_absent f0_queueEnd n x3 x4 a1 a2 a3 a4 a5 a6 a7 a8 = true → wX_meetingBase_38 post (nI x2) (nI f0_absent) (nI f0_queueEnd) n (nI x3) (nI x4) (bd_ar a1) (bd_ar a2) (bd_ar a3) (bd_ar a4) (bd_ar a5) (bd_ar a6) (bd_ar a7) (bd_ar a8) := by
  intro n
  induction n with
  | zero => intro x3 x4 a1 a2 a3 a4 a5 a6 a7 a8 h; exact absurd h Bool.false_ne_true
  | succ n ih =>
    intro x3 x4 a1 a2 a3 a4 a5 a6 a7 a8 h
    unfold bd_X_meetingBase_38 at h
    exact (cb_br h (hm_le hm_10 rfl) (fun h => (cb_in h rfl (fun h => (nm_r (hm_get rfl rfl) (Exists.intro 12 (sd_X_meetingBase_95 h_post 12 _ _ h)))))) (fun h => (cb_in h rfl (fun h => (cb_br h (hm_lt (hm_get rfl rfl) hm_0) (fun h => (cb_in h rfl (fun h => (nm_r (hm_get rfl rfl) (Exists.intro 12 (sd_X_meetingBase_95 h_post 12 _ _ h)))))) (fun h => (cb_in h rfl (fun h => (cb_in h (hm_get rfl rfl) (fun h => (cb_in h (hm_get rfl (hm_get rfl rfl)) (fun h => (nm_r (hm_get rfl (hm_get rfl (hm_get rfl rfl))) (cb_in h rfl (fun h => (nm_r (hm_upd rfl rfl hm_1) (nm_r (hm_add rfl hm_1) (ih _ _ _ _ _ _ _ _ _ _ h))))))))))))))))))
def bd_X_meetingBase_2 (post : Nat → Nat → Nat → Nat → Nat → Nat → Nat → Nat → Nat → Nat → Nat → Bool) (x1 : Nat) (x2 : Nat) (f0_absent : Nat) (f0_queueEnd : Nat) : Nat → Nat → Nat → Nat → Nat → Nat → Nat → Nat → Nat → Nat → Bool
  | 0 => fun _ _ _ _ _ _ _ _ _ => false
  | n + 1 => fun x3 a1 a2 a3 a4 a5 a6 a7 a8 => (cond (bd_le 10 x3) (cond (bd_in x1) ((fun x3_3 : Nat => (cond (bd_in x3_3) ((fun a7_5 : Nat => (bd_X_meetingBase_38 post x2 f0_absent f0_queueEnd 12 x3_3 0 a1 a2 a3 a4 a5 a6 a7_5 a8)) (bd_st a7 (bd_cl x3_3) 1)) false)) (bd_gt a5 (bd_cl x1))) false) (cond (bd_in x3) ((fun a7_29 : Nat => ((fun x3_30 : Nat => (bd_X_meetingBase_2 post x1 x2 f0_absent f0_queueEnd n x3_30 a1 a2 a3 a4 a5 a6 a7_29 a8)) (Nat.add x3 1))) (bd_st a7 (bd_cl x3) 0)) false))
theorem sd_X_meetingBase_2 {post : Int32 → St2 → Prop} {q_post : Nat → Nat → Nat → Nat → Nat → Nat → Nat → Nat → Nat → Nat → Nat → Bool} {x1 : Nat} {x2 : Nat} {f0_absent : Nat} {f0_queueEnd : Nat} (h_post : ∀ v0 v1 v2 v3 v4 v5 v6 v7 v8 v9 v10 : Nat, q_post v0 v1 v2 v3 v4 v5 v6 v7 v8 v9 v10 = true → post (nI v0) ((nI v1), (nI v2), (bd_ar v3), (bd_ar v4), (bd_ar v5), (bd_ar v6), (bd_ar v7), (bd_ar v8), (bd_ar v9), (bd_ar v10))) : ∀ (n : Nat) (x3 a1 a2 a3 a4 a5 a6 a7 a8 : Nat), bd_X_meetingBase_2 q_post x1 x2 f0_absent f0_queueEnd n x3 a1 a2 a3 a4 a5 a6 a7 a8 = true → wX_meetingBase_2 post (nI x1) (nI x2) (nI f0_absent) (nI f0_queueEnd) n (nI x3) (bd_ar a1) (bd_ar a2) (bd_ar a3) (bd_ar a4) (bd_ar a5) (bd_ar a6) (bd_ar a7) (bd_ar a8) := by
  intro n
  induction n with
  | zero => intro x3 a1 a2 a3 a4 a5 a6 a7 a8 h; exact absurd h Bool.false_ne_true
  | succ n ih =>
    intro x3 a1 a2 a3 a4 a5 a6 a7 a8 h
    unfold bd_X_meetingBase_2 at h
    exact (cb_br h (hm_le hm_10 rfl) (fun h => (cb_in h rfl (fun h => (nm_r (hm_get rfl rfl) (cb_in h rfl (fun h => (nm_r (hm_upd rfl rfl hm_1) (Exists.intro 12 (sd_X_meetingBase_38 h_post 12 _ _ _ _ _ _ _ _ _ _ h))))))))) (fun h => (cb_in h rfl (fun h => (nm_r (hm_upd rfl rfl hm_0) (nm_r (hm_add rfl hm_1) (ih _ _ _ _ _ _ _ _ _ h)))))))
def bd_pX_meetingBase (post : Nat → Nat → Nat → Nat → Nat → Nat → Nat → Nat → Nat → Nat → Nat → Bool) (f0_absent : Nat) (f0_queueEnd : Nat) (a1 : Nat) (a2 : Nat) (a3 : Nat) (a4 : Nat) (a5 : Nat) (a6 : Nat) (a7 : Nat) (a8 : Nat) (p0 : Nat) (p1 : Nat) : Bool := (bd_X_meetingBase_2 post p0 p1 f0_absent f0_queueEnd 12 0 a1 a2 a3 a4 a5 a6 a7 a8)
theorem sd_pX_meetingBase {post : Int32 → St2 → Prop} {q_post : Nat → Nat → Nat → Nat → Nat → Nat → Nat → Nat → Nat → Nat → Nat → Bool} {f0_absent f0_queueEnd a1 a2 a3 a4 a5 a6 a7 a8 : Nat} {w_p0 : Int32} {p0 : Nat} {w_p1 : Int32} {p1 : Nat} (h : bd_pX_meetingBase q_post f0_absent f0_queueEnd a1 a2 a3 a4 a5 a6 a7 a8 p0 p1 = true) (h_post : ∀ v0 v1 v2 v3 v4 v5 v6 v7 v8 v9 v10 : Nat, q_post v0 v1 v2 v3 v4 v5 v6 v7 v8 v9 v10 = true → post (nI v0) ((nI v1), (nI v2), (bd_ar v3), (bd_ar v4), (bd_ar v5), (bd_ar v6), (bd_ar v7), (bd_ar v8), (bd_ar v9), (bd_ar v10))) (e_p0 : w_p0 = nI p0) (e_p1 : w_p1 = nI p1) : wpX_meetingBase post ((nI f0_absent), (nI f0_queueEnd), (bd_ar a1), (bd_ar a2), (bd_ar a3), (bd_ar a4), (bd_ar a5), (bd_ar a6), (bd_ar a7), (bd_ar a8)) w_p0 w_p1 := by
  subst e_p0
  subst e_p1
  unfold wpX_meetingBase
  unfold bd_pX_meetingBase at h
  exact (Exists.intro 12 (sd_X_meetingBase_2 h_post 12 _ _ _ _ _ _ _ _ _ h))
def bd_X_markWay_9 (post : Nat → Nat → Nat → Nat → Nat → Nat → Nat → Nat → Nat → Nat → Bool) (x2 : Nat) (f0_absent : Nat) (f0_queueEnd : Nat) : Nat → Nat → Nat → Nat → Nat → Nat → Nat → Nat → Nat → Nat → Nat → Nat → Bool
  | 0 => fun _ _ _ _ _ _ _ _ _ _ _ => false
  | n + 1 => fun x4 x5 x6 a1 a2 a3 a4 a5 a6 a7 a8 => (cond (bd_le 10 x6) (post f0_absent f0_queueEnd a1 a2 a3 a4 a5 a6 a7 a8) (cond (bd_in x4) (cond (bd_eq (bd_gt a5 (bd_cl x4)) x2) (post f0_absent f0_queueEnd a1 a2 a3 a4 a5 a6 a7 a8) (cond (bd_in x4) (cond (bd_in (bd_gt a5 (bd_cl x4))) ((fun a6_6 : Nat => (cond (bd_in x4) (cond (bd_in (bd_gt a2 (bd_cl x4))) (cond (bd_in (bd_gt a5 (bd_cl (bd_gt a2 (bd_cl x4))))) ((fun a6_10 : Nat => (cond (bd_in x4) ((fun a4_12 : Nat => (cond (bd_in x4) ((fun x5_14 : Nat => (cond (bd_in x4) (cond (bd_in (bd_gt a2 (bd_cl x4))) ((fun x4_17 : Nat => ((fun x6_18 : Nat => (bd_X_markWay_9 post x2 f0_absent f0_queueEnd n x4_17 x5_14 x6_18 a1 a2 a3 a4_12 a5 a6_10 a7 a8)) (Nat.add x6 1))) (bd_gt a4_12 (bd_cl (bd_gt a2 (bd_cl x4))))) false) false)) (bd_gt a2 (bd_cl x4))) false)) (bd_st a4 (bd_cl x4) x5)) false)) (bd_st a6_6 (bd_cl (bd_gt a5 (bd_cl (bd_gt a2 (bd_cl x4))))) 1)) false) false) false)) (bd_st a6 (bd_cl (bd_gt a5 (bd_cl x4))) 1)) false) false)) false))
theorem sd_X_markWay_9 {post : St2 → Prop} {q_post : Nat → Nat → Nat → Nat → Nat → Nat → Nat → Nat → Nat → Nat → Bool} {x2 : Nat} {f0_absent : Nat} {f0_queueEnd : Nat} (h_post : ∀ v0 v1 v2 v3 v4 v5 v6 v7 v8 v9 : Nat, q_post v0 v1 v2 v3 v4 v5 v6 v7 v8 v9 = true → post ((nI v0), (nI v1), (bd_ar v2), (bd_ar v3), (bd_ar v4), (bd_ar v5), (bd_ar v6), (bd_ar v7), (bd_ar v8), (bd_ar v9))) : ∀ (n : Nat) (x4 x5 x6 a1 a2 a3 a4 a5 a6 a7 a8 : Nat), bd_X_markWay_9 q_post x2 f0_absent f0_queueEnd n x4 x5 x6 a1 a2 a3 a4 a5 a6 a7 a8 = true → wX_markWay_9 post (nI x2) (nI f0_absent) (nI f0_queueEnd) n (nI x4) (nI x5) (nI x6) (bd_ar a1) (bd_ar a2) (bd_ar a3) (bd_ar a4) (bd_ar a5) (bd_ar a6) (bd_ar a7) (bd_ar a8) := by
  intro n
  induction n with
  | zero => intro x4 x5 x6 a1 a2 a3 a4 a5 a6 a7 a8 h; exact absurd h Bool.false_ne_true
  | succ n ih =>
    intro x4 x5 x6 a1 a2 a3 a4 a5 a6 a7 a8 h
    unfold bd_X_markWay_9 at h
    exact (cb_br h (hm_le hm_10 rfl) (fun h => (h_post _ _ _ _ _ _ _ _ _ _ h)) (fun h => (cb_in h rfl (fun h => (cb_br h (hm_eq (hm_get rfl rfl) rfl) (fun h => (h_post _ _ _ _ _ _ _ _ _ _ h)) (fun h => (cb_in h rfl (fun h => (cb_in h (hm_get rfl rfl) (fun h => (nm_r (hm_upd rfl (hm_get rfl rfl) hm_1) (cb_in h rfl (fun h => (cb_in h (hm_get rfl rfl) (fun h => (cb_in h (hm_get rfl (hm_get rfl rfl)) (fun h => (nm_r (hm_upd rfl (hm_get rfl (hm_get rfl rfl)) hm_1) (cb_in h rfl (fun h => (nm_r (hm_upd rfl rfl rfl) (cb_in h rfl (fun h => (nm_r (hm_get rfl rfl) (cb_in h rfl (fun h => (cb_in h (hm_get rfl rfl) (fun h => (nm_r (hm_get rfl (hm_get rfl rfl)) (nm_r (hm_add rfl hm_1) (ih _ _ _ _ _ _ _ _ _ _ _ h)))))))))))))))))))))))))))))))
def bd_pX_markWay (post : Nat → Nat → Nat → Nat → Nat → Nat → Nat → Nat → Nat → Nat → Bool) (f0_absent : Nat) (f0_queueEnd : Nat) (a1 : Nat) (a2 : Nat) (a3 : Nat) (a4 : Nat) (a5 : Nat) (a6 : Nat) (a7 : Nat) (a8 : Nat) (p0 : Nat) (p1 : Nat) (p2 : Nat) : Bool := (bd_X_markWay_9 post p1 f0_absent f0_queueEnd 12 p0 p2 0 a1 a2 a3 a4 a5 a6 a7 a8)
theorem sd_pX_markWay {post : St2 → Prop} {q_post : Nat → Nat → Nat → Nat → Nat → Nat → Nat → Nat → Nat → Nat → Bool} {f0_absent f0_queueEnd a1 a2 a3 a4 a5 a6 a7 a8 : Nat} {w_p0 : Int32} {p0 : Nat} {w_p1 : Int32} {p1 : Nat} {w_p2 : Int32} {p2 : Nat} (h : bd_pX_markWay q_post f0_absent f0_queueEnd a1 a2 a3 a4 a5 a6 a7 a8 p0 p1 p2 = true) (h_post : ∀ v0 v1 v2 v3 v4 v5 v6 v7 v8 v9 : Nat, q_post v0 v1 v2 v3 v4 v5 v6 v7 v8 v9 = true → post ((nI v0), (nI v1), (bd_ar v2), (bd_ar v3), (bd_ar v4), (bd_ar v5), (bd_ar v6), (bd_ar v7), (bd_ar v8), (bd_ar v9))) (e_p0 : w_p0 = nI p0) (e_p1 : w_p1 = nI p1) (e_p2 : w_p2 = nI p2) : wpX_markWay post ((nI f0_absent), (nI f0_queueEnd), (bd_ar a1), (bd_ar a2), (bd_ar a3), (bd_ar a4), (bd_ar a5), (bd_ar a6), (bd_ar a7), (bd_ar a8)) w_p0 w_p1 w_p2 := by
  subst e_p0
  subst e_p1
  subst e_p2
  unfold wpX_markWay
  unfold bd_pX_markWay at h
  exact (Exists.intro 12 (sd_X_markWay_9 h_post 12 _ _ _ _ _ _ _ _ _ _ _ h))
def bd_X_drawTogether_48 (post : Nat → Nat → Nat → Nat → Nat → Nat → Nat → Nat → Nat → Nat → Bool) (x3 : Nat) : Nat → Nat → Nat → Nat → Nat → Nat → Nat → Nat → Nat → Nat → Nat → Nat → Bool
  | 0 => fun _ _ _ _ _ _ _ _ _ _ _ => false
  | n + 1 => fun x4 f0_absent f0_queueEnd am421 am422 am423 am424 am425 am426 am427 am428 => (cond (bd_le 10 x4) (post f0_absent f0_queueEnd am421 am422 am423 am424 am425 am426 am427 am428) (cond (bd_in x4) (cond (bd_in (bd_gt am425 (bd_cl x4))) (cond (bd_eq (bd_gt am426 (bd_cl (bd_gt am425 (bd_cl x4)))) 0) ((fun x4_87 : Nat => (bd_X_drawTogether_48 post x3 n x4_87 f0_absent f0_queueEnd am421 am422 am423 am424 am425 am426 am427 am428)) (Nat.add x4 1)) (cond (bd_in x4) ((fun am425_89 : Nat => (bd_pX_makeOuter (fun f0_absent_91 f0_queueEnd_92 am811_95 am812_98 am813_101 am814_104 am815_107 am816_110 am817_113 am818_116 => ((fun x4_117 : Nat => (bd_X_drawTogether_48 post x3 n x4_117 f0_absent_91 f0_queueEnd_92 am811_95 am812_98 am813_101 am814_104 am815_107 am816_110 am817_113 am818_116)) (Nat.add x4 1))) f0_absent f0_queueEnd am421 am422 am423 am424 am425_89 am426 am427 am428 x4)) (bd_st am425 (bd_cl x4) x3)) false)) false) false))
theorem sd_X_drawTogether_48 {post : St2 → Prop} {q_post : Nat → Nat → Nat → Nat → Nat → Nat → Nat → Nat → Nat → Nat → Bool} {x3 : Nat} (h_post : ∀ v0 v1 v2 v3 v4 v5 v6 v7 v8 v9 : Nat, q_post v0 v1 v2 v3 v4 v5 v6 v7 v8 v9 = true → post ((nI v0), (nI v1), (bd_ar v2), (bd_ar v3), (bd_ar v4), (bd_ar v5), (bd_ar v6), (bd_ar v7), (bd_ar v8), (bd_ar v9))) : ∀ (n : Nat) (x4 f0_absent f0_queueEnd am421 am422 am423 am424 am425 am426 am427 am428 : Nat), bd_X_drawTogether_48 q_post x3 n x4 f0_absent f0_queueEnd am421 am422 am423 am424 am425 am426 am427 am428 = true → wX_drawTogether_48 post (nI x3) n (nI x4) (nI f0_absent) (nI f0_queueEnd) (bd_ar am421) (bd_ar am422) (bd_ar am423) (bd_ar am424) (bd_ar am425) (bd_ar am426) (bd_ar am427) (bd_ar am428) := by
  intro n
  induction n with
  | zero => intro x4 f0_absent f0_queueEnd am421 am422 am423 am424 am425 am426 am427 am428 h; exact absurd h Bool.false_ne_true
  | succ n ih =>
    intro x4 f0_absent f0_queueEnd am421 am422 am423 am424 am425 am426 am427 am428 h
    unfold bd_X_drawTogether_48 at h
    exact (cb_br h (hm_le hm_10 rfl) (fun h => (h_post _ _ _ _ _ _ _ _ _ _ h)) (fun h => (cb_in h rfl (fun h => (cb_in h (hm_get rfl rfl) (fun h => (cb_br h (hm_eq (hm_get rfl (hm_get rfl rfl)) hm_0) (fun h => (nm_r (hm_add rfl hm_1) (ih _ _ _ _ _ _ _ _ _ _ _ h))) (fun h => (cb_in h rfl (fun h => (nm_r (hm_upd rfl rfl rfl) (sd_pX_makeOuter h (fun f0_absent_91 f0_queueEnd_92 am811_95 am812_98 am813_101 am814_104 am815_107 am816_110 am817_113 am818_116 h => (nm_r (hm_add rfl hm_1) (ih _ _ _ _ _ _ _ _ _ _ _ h))) rfl))))))))))))
def bd_X_drawTogether_10 (post : Nat → Nat → Nat → Nat → Nat → Nat → Nat → Nat → Nat → Nat → Bool) (x1 : Nat) (x2 : Nat) (x3 : Nat) (f0_absent : Nat) (f0_queueEnd : Nat) : Nat → Nat → Nat → Nat → Nat → Nat → Nat → Nat → Nat → Nat → Bool
  | 0 => fun _ _ _ _ _ _ _ _ _ => false
  | n + 1 => fun x4 am31 am32 am33 am34 am35 am36 am37 am38 => (cond (bd_le 10 x4) (bd_pX_markWay (fun f0_absent_30 f0_queueEnd_31 am351_34 am352_37 am353_40 am354_43 am355_46 am356_49 am357_52 am358_55 => (bd_pX_markWay (fun f0_absent_57 f0_queueEnd_58 am421_61 am422_64 am423_67 am424_70 am425_73 am426_76 am427_79 am428_82 => (bd_X_drawTogether_48 post x3 12 0 f0_absent_57 f0_queueEnd_58 am421_61 am422_64 am423_67 am424_70 am425_73 am426_76 am427_79 am428_82)) f0_absent_30 f0_queueEnd_31 am351_34 am352_37 am353_40 am354_43 am355_46 am356_49 am357_52 am358_55 x2 x3 x1)) f0_absent f0_queueEnd am31 am32 am33 am34 am35 am36 am37 am38 x1 x3 x2) (cond (bd_in x4) ((fun am36_119 : Nat => ((fun x4_120 : Nat => (bd_X_drawTogether_10 post x1 x2 x3 f0_absent f0_queueEnd n x4_120 am31 am32 am33 am34 am35 am36_119 am37 am38)) (Nat.add x4 1))) (bd_st am36 (bd_cl x4) 0)) false))
theorem sd_X_drawTogether_10 {post : St2 → Prop} {q_post : Nat → Nat → Nat → Nat → Nat → Nat → Nat → Nat → Nat → Nat → Bool} {x1 : Nat} {x2 : Nat} {x3 : Nat} {f0_absent : Nat} {f0_queueEnd : Nat} (h_post : ∀ v0 v1 v2 v3 v4 v5 v6 v7 v8 v9 : Nat, q_post v0 v1 v2 v3 v4 v5 v6 v7 v8 v9 = true → post ((nI v0), (nI v1), (bd_ar v2), (bd_ar v3), (bd_ar v4), (bd_ar v5), (bd_ar v6), (bd_ar v7), (bd_ar v8), (bd_ar v9))) : ∀ (n : Nat) (x4 am31 am32 am33 am34 am35 am36 am37 am38 : Nat), bd_X_drawTogether_10 q_post x1 x2 x3 f0_absent f0_queueEnd n x4 am31 am32 am33 am34 am35 am36 am37 am38 = true → wX_drawTogether_10 post (nI x1) (nI x2) (nI x3) (nI f0_absent) (nI f0_queueEnd) n (nI x4) (bd_ar am31) (bd_ar am32) (bd_ar am33) (bd_ar am34) (bd_ar am35) (bd_ar am36) (bd_ar am37) (bd_ar am38) := by
  intro n
  induction n with
  | zero => intro x4 am31 am32 am33 am34 am35 am36 am37 am38 h; exact absurd h Bool.false_ne_true
  | succ n ih =>
    intro x4 am31 am32 am33 am34 am35 am36 am37 am38 h
    unfold bd_X_drawTogether_10 at h
    exact (cb_br h (hm_le hm_10 rfl) (fun h => (sd_pX_markWay h (fun f0_absent_30 f0_queueEnd_31 am351_34 am352_37 am353_40 am354_43 am355_46 am356_49 am357_52 am358_55 h => (sd_pX_markWay h (fun f0_absent_57 f0_queueEnd_58 am421_61 am422_64 am423_67 am424_70 am425_73 am426_76 am427_79 am428_82 h => (Exists.intro 12 (sd_X_drawTogether_48 h_post 12 _ _ _ _ _ _ _ _ _ _ _ h))) rfl rfl rfl)) rfl rfl rfl)) (fun h => (cb_in h rfl (fun h => (nm_r (hm_upd rfl rfl hm_0) (nm_r (hm_add rfl hm_1) (ih _ _ _ _ _ _ _ _ _ h)))))))
def bd_pX_drawTogether (post : Nat → Nat → Nat → Nat → Nat → Nat → Nat → Nat → Nat → Nat → Bool) (f0_absent : Nat) (f0_queueEnd : Nat) (a1 : Nat) (a2 : Nat) (a3 : Nat) (a4 : Nat) (a5 : Nat) (a6 : Nat) (a7 : Nat) (a8 : Nat) (p0 : Nat) (p1 : Nat) : Bool := (bd_pX_meetingBase (fun r_1 f0_absent_2 f0_queueEnd_3 am31_6 am32_9 am33_12 am34_15 am35_18 am36_21 am37_24 am38_27 => (bd_X_drawTogether_10 post p0 p1 r_1 f0_absent_2 f0_queueEnd_3 12 0 am31_6 am32_9 am33_12 am34_15 am35_18 am36_21 am37_24 am38_27)) f0_absent f0_queueEnd a1 a2 a3 a4 a5 a6 a7 a8 p0 p1)
theorem sd_pX_drawTogether {post : St2 → Prop} {q_post : Nat → Nat → Nat → Nat → Nat → Nat → Nat → Nat → Nat → Nat → Bool} {f0_absent f0_queueEnd a1 a2 a3 a4 a5 a6 a7 a8 : Nat} {w_p0 : Int32} {p0 : Nat} {w_p1 : Int32} {p1 : Nat} (h : bd_pX_drawTogether q_post f0_absent f0_queueEnd a1 a2 a3 a4 a5 a6 a7 a8 p0 p1 = true) (h_post : ∀ v0 v1 v2 v3 v4 v5 v6 v7 v8 v9 : Nat, q_post v0 v1 v2 v3 v4 v5 v6 v7 v8 v9 = true → post ((nI v0), (nI v1), (bd_ar v2), (bd_ar v3), (bd_ar v4), (bd_ar v5), (bd_ar v6), (bd_ar v7), (bd_ar v8), (bd_ar v9))) (e_p0 : w_p0 = nI p0) (e_p1 : w_p1 = nI p1) : wpX_drawTogether post ((nI f0_absent), (nI f0_queueEnd), (bd_ar a1), (bd_ar a2), (bd_ar a3), (bd_ar a4), (bd_ar a5), (bd_ar a6), (bd_ar a7), (bd_ar a8)) w_p0 w_p1 := by
  subst e_p0
  subst e_p1
  unfold wpX_drawTogether
  unfold bd_pX_drawTogether at h
  exact (sd_pX_meetingBase h (fun r_1 f0_absent_2 f0_queueEnd_3 am31_6 am32_9 am33_12 am34_15 am35_18 am36_21 am37_24 am38_27 h => (Exists.intro 12 (sd_X_drawTogether_10 h_post 12 _ _ _ _ _ _ _ _ _ h))) rfl rfl)
def bd_X_follow_60 (post : Nat → Nat → Nat → Nat → Nat → Nat → Nat → Nat → Nat → Nat → Nat → Bool) (x1 : Nat) (x2 : Nat) (z0 : Nat) (f0_absent : Nat) (f0_queueEnd : Nat) (a1 : Nat) (a2 : Nat) (a3 : Nat) (a4 : Nat) (a5 : Nat) (a6 : Nat) (a7 : Nat) (a8 : Nat) : Bool := (cond (bd_eq z0 0) (cond (bd_in x2) (cond (bd_le 0 (bd_gt a4 (bd_cl x2))) (post 4294967295 f0_absent f0_queueEnd a1 a2 a3 a4 a5 a6 a7 a8) (cond (bd_in x2) ((fun a4_11 : Nat => (cond (bd_in x2) (cond (bd_le 0 (bd_gt a2 (bd_cl x2))) (cond (bd_in x2) (bd_pX_makeOuter (fun f0_absent_16 f0_queueEnd_17 am1101_20 am1102_23 am1103_26 am1104_29 am1105_32 am1106_35 am1107_38 am1108_41 => (post 4294967295 f0_absent_16 f0_queueEnd_17 am1101_20 am1102_23 am1103_26 am1104_29 am1105_32 am1106_35 am1107_38 am1108_41)) f0_absent f0_queueEnd a1 a2 a3 a4_11 a5 a6 a7 a8 (bd_gt a2 (bd_cl x2))) false) (post x2 f0_absent f0_queueEnd a1 a2 a3 a4_11 a5 a6 a7 a8)) false)) (bd_st a4 (bd_cl x2) x1)) false)) false) (bd_pX_drawTogether (fun f0_absent_43 f0_queueEnd_44 am701_47 am702_50 am703_53 am704_56 am705_59 am706_62 am707_65 am708_68 => (post 4294967295 f0_absent_43 f0_queueEnd_44 am701_47 am702_50 am703_53 am704_56 am705_59 am706_62 am707_65 am708_68)) f0_absent f0_queueEnd a1 a2 a3 a4 a5 a6 a7 a8 x1 x2))
theorem sd_X_follow_60 {post : Int32 → St2 → Prop} {q_post : Nat → Nat → Nat → Nat → Nat → Nat → Nat → Nat → Nat → Nat → Nat → Bool} {w_x1 : Int32} {x1 : Nat} {w_x2 : Int32} {x2 : Nat} {w_z0 : Int32} {z0 : Nat} {f0_absent : Nat} {f0_queueEnd : Nat} {a1 : Nat} {a2 : Nat} {a3 : Nat} {a4 : Nat} {a5 : Nat} {a6 : Nat} {a7 : Nat} {a8 : Nat} (h : bd_X_follow_60 q_post x1 x2 z0 f0_absent f0_queueEnd a1 a2 a3 a4 a5 a6 a7 a8 = true) (h_post : ∀ v0 v1 v2 v3 v4 v5 v6 v7 v8 v9 v10 : Nat, q_post v0 v1 v2 v3 v4 v5 v6 v7 v8 v9 v10 = true → post (nI v0) ((nI v1), (nI v2), (bd_ar v3), (bd_ar v4), (bd_ar v5), (bd_ar v6), (bd_ar v7), (bd_ar v8), (bd_ar v9), (bd_ar v10))) (e_x1 : w_x1 = nI x1) (e_x2 : w_x2 = nI x2) (e_z0 : w_z0 = nI z0) : wX_follow_60 post w_x1 w_x2 w_z0 (nI f0_absent) (nI f0_queueEnd) (bd_ar a1) (bd_ar a2) (bd_ar a3) (bd_ar a4) (bd_ar a5) (bd_ar a6) (bd_ar a7) (bd_ar a8) := by
  subst e_x1
  subst e_x2
  subst e_z0
  unfold wX_follow_60
  unfold bd_X_follow_60 at h
  exact (cb_br h (hm_eq rfl hm_0) (fun h => (cb_in h rfl (fun h => (cb_br h (hm_le hm_0 (hm_get rfl rfl)) (fun h => (cb_eq (F := fun z => post z _) hm_m1 (h_post _ _ _ _ _ _ _ _ _ _ _ h))) (fun h => (cb_in h rfl (fun h => (nm_r (hm_upd rfl rfl rfl) (cb_in h rfl (fun h => (cb_br h (hm_le hm_0 (hm_get rfl rfl)) (fun h => (cb_in h rfl (fun h => (sd_pX_makeOuter h (fun f0_absent_16 f0_queueEnd_17 am1101_20 am1102_23 am1103_26 am1104_29 am1105_32 am1106_35 am1107_38 am1108_41 h => (cb_eq (F := fun z => post z _) hm_m1 (h_post _ _ _ _ _ _ _ _ _ _ _ h))) (hm_get rfl rfl))))) (fun h => (h_post _ _ _ _ _ _ _ _ _ _ _ h))))))))))))) (fun h => (sd_pX_drawTogether h (fun f0_absent_43 f0_queueEnd_44 am701_47 am702_50 am703_53 am704_56 am705_59 am706_62 am707_65 am708_68 h => (cb_eq (F := fun z => post z _) hm_m1 (h_post _ _ _ _ _ _ _ _ _ _ _ h))) rfl rfl)))
def bd_X_follow_55 (post : Nat → Nat → Nat → Nat → Nat → Nat → Nat → Nat → Nat → Nat → Nat → Bool) (x1 : Nat) (x2 : Nat) (f0_absent : Nat) (f0_queueEnd : Nat) (a1 : Nat) (a2 : Nat) (a3 : Nat) (a4 : Nat) (a5 : Nat) (a6 : Nat) (a7 : Nat) (a8 : Nat) : Bool := (bd_X_follow_60 post x1 x2 1 f0_absent f0_queueEnd a1 a2 a3 a4 a5 a6 a7 a8)
theorem sd_X_follow_55 {post : Int32 → St2 → Prop} {q_post : Nat → Nat → Nat → Nat → Nat → Nat → Nat → Nat → Nat → Nat → Nat → Bool} {w_x1 : Int32} {x1 : Nat} {w_x2 : Int32} {x2 : Nat} {f0_absent : Nat} {f0_queueEnd : Nat} {a1 : Nat} {a2 : Nat} {a3 : Nat} {a4 : Nat} {a5 : Nat} {a6 : Nat} {a7 : Nat} {a8 : Nat} (h : bd_X_follow_55 q_post x1 x2 f0_absent f0_queueEnd a1 a2 a3 a4 a5 a6 a7 a8 = true) (h_post : ∀ v0 v1 v2 v3 v4 v5 v6 v7 v8 v9 v10 : Nat, q_post v0 v1 v2 v3 v4 v5 v6 v7 v8 v9 v10 = true → post (nI v0) ((nI v1), (nI v2), (bd_ar v3), (bd_ar v4), (bd_ar v5), (bd_ar v6), (bd_ar v7), (bd_ar v8), (bd_ar v9), (bd_ar v10))) (e_x1 : w_x1 = nI x1) (e_x2 : w_x2 = nI x2) : wX_follow_55 post w_x1 w_x2 (nI f0_absent) (nI f0_queueEnd) (bd_ar a1) (bd_ar a2) (bd_ar a3) (bd_ar a4) (bd_ar a5) (bd_ar a6) (bd_ar a7) (bd_ar a8) := by
  subst e_x1
  subst e_x2
  unfold wX_follow_55
  unfold bd_X_follow_55 at h
  exact (sd_X_follow_60 h h_post rfl rfl hm_1)
def bd_X_follow_59 (post : Nat → Nat → Nat → Nat → Nat → Nat → Nat → Nat → Nat → Nat → Nat → Bool) (x1 : Nat) (x2 : Nat) (f0_absent : Nat) (f0_queueEnd : Nat) (a1 : Nat) (a2 : Nat) (a3 : Nat) (a4 : Nat) (a5 : Nat) (a6 : Nat) (a7 : Nat) (a8 : Nat) : Bool := (bd_X_follow_60 post x1 x2 0 f0_absent f0_queueEnd a1 a2 a3 a4 a5 a6 a7 a8)
theorem sd_X_follow_59 {post : Int32 → St2 → Prop} {q_post : Nat → Nat → Nat → Nat → Nat → Nat → Nat → Nat → Nat → Nat → Nat → Bool} {w_x1 : Int32} {x1 : Nat} {w_x2 : Int32} {x2 : Nat} {f0_absent : Nat} {f0_queueEnd : Nat} {a1 : Nat} {a2 : Nat} {a3 : Nat} {a4 : Nat} {a5 : Nat} {a6 : Nat} {a7 : Nat} {a8 : Nat} (h : bd_X_follow_59 q_post x1 x2 f0_absent f0_queueEnd a1 a2 a3 a4 a5 a6 a7 a8 = true) (h_post : ∀ v0 v1 v2 v3 v4 v5 v6 v7 v8 v9 v10 : Nat, q_post v0 v1 v2 v3 v4 v5 v6 v7 v8 v9 v10 = true → post (nI v0) ((nI v1), (nI v2), (bd_ar v3), (bd_ar v4), (bd_ar v5), (bd_ar v6), (bd_ar v7), (bd_ar v8), (bd_ar v9), (bd_ar v10))) (e_x1 : w_x1 = nI x1) (e_x2 : w_x2 = nI x2) : wX_follow_59 post w_x1 w_x2 (nI f0_absent) (nI f0_queueEnd) (bd_ar a1) (bd_ar a2) (bd_ar a3) (bd_ar a4) (bd_ar a5) (bd_ar a6) (bd_ar a7) (bd_ar a8) := by
  subst e_x1
  subst e_x2
  unfold wX_follow_59
  unfold bd_X_follow_59 at h
  exact (sd_X_follow_60 h h_post rfl rfl hm_0)
def bd_pX_follow (post : Nat → Nat → Nat → Nat → Nat → Nat → Nat → Nat → Nat → Nat → Nat → Bool) (f0_absent : Nat) (f0_queueEnd : Nat) (a1 : Nat) (a2 : Nat) (a3 : Nat) (a4 : Nat) (a5 : Nat) (a6 : Nat) (a7 : Nat) (a8 : Nat) (p0 : Nat) (p1 : Nat) (p2 : Nat) : Bool := (cond (bd_in p0) (cond (bd_in p1) (cond (bd_eq (bd_gt a5 (bd_cl p0)) (bd_gt a5 (bd_cl p1))) (post 4294967295 f0_absent f0_queueEnd a1 a2 a3 a4 a5 a6 a7 a8) (cond (bd_in p0) (cond (bd_eq (bd_gt a2 (bd_cl p0)) p1) (post 4294967295 f0_absent f0_queueEnd a1 a2 a3 a4 a5 a6 a7 a8) (cond (bd_eq p1 p2) (bd_X_follow_55 post p0 p1 f0_absent f0_queueEnd a1 a2 a3 a4 a5 a6 a7 a8) (cond (bd_in p1) (cond (bd_lt (bd_gt a2 (bd_cl p1)) 0) (bd_X_follow_59 post p0 p1 f0_absent f0_queueEnd a1 a2 a3 a4 a5 a6 a7 a8) (cond (bd_in p1) (cond (bd_in (bd_gt a2 (bd_cl p1))) (cond (bd_lt (bd_gt a4 (bd_cl (bd_gt a2 (bd_cl p1)))) 0) (bd_X_follow_59 post p0 p1 f0_absent f0_queueEnd a1 a2 a3 a4 a5 a6 a7 a8) (bd_X_follow_55 post p0 p1 f0_absent f0_queueEnd a1 a2 a3 a4 a5 a6 a7 a8)) false) false)) false))) false)) false) false)
theorem sd_pX_follow {post : Int32 → St2 → Prop} {q_post : Nat → Nat → Nat → Nat → Nat → Nat → Nat → Nat → Nat → Nat → Nat → Bool} {f0_absent f0_queueEnd a1 a2 a3 a4 a5 a6 a7 a8 : Nat} {w_p0 : Int32} {p0 : Nat} {w_p1 : Int32} {p1 : Nat} {w_p2 : Int32} {p2 : Nat} (h : bd_pX_follow q_post f0_absent f0_queueEnd a1 a2 a3 a4 a5 a6 a7 a8 p0 p1 p2 = true) (h_post : ∀ v0 v1 v2 v3 v4 v5 v6 v7 v8 v9 v10 : Nat, q_post v0 v1 v2 v3 v4 v5 v6 v7 v8 v9 v10 = true → post (nI v0) ((nI v1), (nI v2), (bd_ar v3), (bd_ar v4), (bd_ar v5), (bd_ar v6), (bd_ar v7), (bd_ar v8), (bd_ar v9), (bd_ar v10))) (e_p0 : w_p0 = nI p0) (e_p1 : w_p1 = nI p1) (e_p2 : w_p2 = nI p2) : wpX_follow post ((nI f0_absent), (nI f0_queueEnd), (bd_ar a1), (bd_ar a2), (bd_ar a3), (bd_ar a4), (bd_ar a5), (bd_ar a6), (bd_ar a7), (bd_ar a8)) w_p0 w_p1 w_p2 := by
  subst e_p0
  subst e_p1
  subst e_p2
  unfold wpX_follow
  unfold bd_pX_follow at h
  exact (cb_in h rfl (fun h => (cb_in h rfl (fun h => (cb_br h (hm_eq (hm_get rfl rfl) (hm_get rfl rfl)) (fun h => (cb_eq (F := fun z => post z _) hm_m1 (h_post _ _ _ _ _ _ _ _ _ _ _ h))) (fun h => (cb_in h rfl (fun h => (cb_br h (hm_eq (hm_get rfl rfl) rfl) (fun h => (cb_eq (F := fun z => post z _) hm_m1 (h_post _ _ _ _ _ _ _ _ _ _ _ h))) (fun h => (cb_br h (hm_eq rfl rfl) (fun h => (sd_X_follow_55 h h_post rfl rfl)) (fun h => (cb_in h rfl (fun h => (cb_br h (hm_lt (hm_get rfl rfl) hm_0) (fun h => (sd_X_follow_59 h h_post rfl rfl)) (fun h => (cb_in h rfl (fun h => (cb_in h (hm_get rfl rfl) (fun h => (cb_br h (hm_lt (hm_get rfl (hm_get rfl rfl)) hm_0) (fun h => (sd_X_follow_59 h h_post rfl rfl)) (fun h => (sd_X_follow_55 h h_post rfl rfl)))))))))))))))))))))))
def bd_X_search_122 (post : Nat → Nat → Nat → Nat → Nat → Nat → Nat → Nat → Nat → Nat → Nat → Bool) (J47 : Nat → Nat → Nat → Nat → Nat → Nat → Nat → Nat → Nat → Nat → Nat → Bool) (J63 : Nat → Nat → Nat → Nat → Nat → Nat → Nat → Nat → Nat → Nat → Nat → Bool) (x1 : Nat) (x2 : Nat) (x3 : Nat) (z0 : Nat) (f0_absent : Nat) (f0_queueEnd : Nat) (am421 : Nat) (am422 : Nat) (am423 : Nat) (am424 : Nat) (am425 : Nat) (am426 : Nat) (am427 : Nat) (am428 : Nat) : Bool := (cond (bd_lt z0 0) ((fun x3_38 : Nat => (J63 x3_38 f0_absent f0_queueEnd am421 am422 am423 am424 am425 am426 am427 am428)) (Nat.add x3 1)) (post z0 f0_absent f0_queueEnd am421 am422 am423 am424 am425 am426 am427 am428))
theorem sd_X_search_122 {post : Int32 → St2 → Prop} {q_post : Nat → Nat → Nat → Nat → Nat → Nat → Nat → Nat → Nat → Nat → Nat → Bool} {J47 : Int32 → Int32 → Int32 → (Nat → Int32) → (Nat → Int32) → (Nat → Int32) → (Nat → Int32) → (Nat → Int32) → (Nat → Int32) → (Nat → Int32) → (Nat → Int32) → Prop} {q_J47 : Nat → Nat → Nat → Nat → Nat → Nat → Nat → Nat → Nat → Nat → Nat → Bool} {J63 : Int32 → Int32 → Int32 → (Nat → Int32) → (Nat → Int32) → (Nat → Int32) → (Nat → Int32) → (Nat → Int32) → (Nat → Int32) → (Nat → Int32) → (Nat → Int32) → Prop} {q_J63 : Nat → Nat → Nat → Nat → Nat → Nat → Nat → Nat → Nat → Nat → Nat → Bool} {w_x1 : Int32} {x1 : Nat} {w_x2 : Int32} {x2 : Nat} {w_x3 : Int32} {x3 : Nat} {w_z0 : Int32} {z0 : Nat} {f0_absent : Nat} {f0_queueEnd : Nat} {am421 : Nat} {am422 : Nat} {am423 : Nat} {am424 : Nat} {am425 : Nat} {am426 : Nat} {am427 : Nat} {am428 : Nat} (h : bd_X_search_122 q_post q_J47 q_J63 x1 x2 x3 z0 f0_absent f0_queueEnd am421 am422 am423 am424 am425 am426 am427 am428 = true) (h_post : ∀ v0 v1 v2 v3 v4 v5 v6 v7 v8 v9 v10 : Nat, q_post v0 v1 v2 v3 v4 v5 v6 v7 v8 v9 v10 = true → post (nI v0) ((nI v1), (nI v2), (bd_ar v3), (bd_ar v4), (bd_ar v5), (bd_ar v6), (bd_ar v7), (bd_ar v8), (bd_ar v9), (bd_ar v10))) (h_J47 : ∀ v0 v1 v2 v3 v4 v5 v6 v7 v8 v9 v10 : Nat, q_J47 v0 v1 v2 v3 v4 v5 v6 v7 v8 v9 v10 = true → J47 (nI v0) (nI v1) (nI v2) (bd_ar v3) (bd_ar v4) (bd_ar v5) (bd_ar v6) (bd_ar v7) (bd_ar v8) (bd_ar v9) (bd_ar v10)) (h_J63 : ∀ v0 v1 v2 v3 v4 v5 v6 v7 v8 v9 v10 : Nat, q_J63 v0 v1 v2 v3 v4 v5 v6 v7 v8 v9 v10 = true → J63 (nI v0) (nI v1) (nI v2) (bd_ar v3) (bd_ar v4) (bd_ar v5) (bd_ar v6) (bd_ar v7) (bd_ar v8) (bd_ar v9) (bd_ar v10)) (e_x1 : w_x1 = nI x1) (e_x2 : w_x2 = nI x2) (e_x3 : w_x3 = nI x3) (e_z0 : w_z0 = nI z0) : wX_search_122 post J47 J63 w_x1 w_x2 w_x3 w_z0 (nI f0_absent) (nI f0_queueEnd) (bd_ar am421) (bd_ar am422) (bd_ar am423) (bd_ar am424) (bd_ar am425) (bd_ar am426) (bd_ar am427) (bd_ar am428) := by
  subst e_x1
  subst e_x2
  subst e_x3
  subst e_z0
  unfold wX_search_122
  unfold bd_X_search_122 at h
  exact (cb_br h (hm_lt rfl hm_0) (fun h => (nm_r (hm_add rfl hm_1) (h_J63 _ _ _ _ _ _ _ _ _ _ _ h))) (fun h => (h_post _ _ _ _ _ _ _ _ _ _ _ h)))
def bd_X_search_99 (post : Nat → Nat → Nat → Nat → Nat → Nat → Nat → Nat → Nat → Nat → Nat → Bool) (J47 : Nat → Nat → Nat → Nat → Nat → Nat → Nat → Nat → Nat → Nat → Nat → Bool) (J63 : Nat → Nat → Nat → Nat → Nat → Nat → Nat → Nat → Nat → Nat → Nat → Bool) (x1 : Nat) (x2 : Nat) (x3 : Nat) (z0 : Nat) (f0_absent : Nat) (f0_queueEnd : Nat) (am421 : Nat) (am422 : Nat) (am423 : Nat) (am424 : Nat) (am425 : Nat) (am426 : Nat) (am427 : Nat) (am428 : Nat) : Bool := (cond (bd_eq z0 0) (bd_X_search_122 post J47 J63 x1 x2 x3 4294967295 f0_absent f0_queueEnd am421 am422 am423 am424 am425 am426 am427 am428) (cond (bd_in x2) (bd_pX_follow (fun r_40 f0_absent_41 f0_queueEnd_42 am1151_45 am1152_48 am1153_51 am1154_54 am1155_57 am1156_60 am1157_63 am1158_66 => (bd_X_search_122 post J47 J63 x1 x2 x3 r_40 f0_absent_41 f0_queueEnd_42 am1151_45 am1152_48 am1153_51 am1154_54 am1155_57 am1156_60 am1157_63 am1158_66)) f0_absent f0_queueEnd am421 am422 am423 am424 am425 am426 am427 am428 (bd_gt am428 (bd_cl x2)) x3 x1) false))
theorem sd_X_search_99 {post : Int32 → St2 → Prop} {q_post : Nat → Nat → Nat → Nat → Nat → Nat → Nat → Nat → Nat → Nat → Nat → Bool} {J47 : Int32 → Int32 → Int32 → (Nat → Int32) → (Nat → Int32) → (Nat → Int32) → (Nat → Int32) → (Nat → Int32) → (Nat → Int32) → (Nat → Int32) → (Nat → Int32) → Prop} {q_J47 : Nat → Nat → Nat → Nat → Nat → Nat → Nat → Nat → Nat → Nat → Nat → Bool} {J63 : Int32 → Int32 → Int32 → (Nat → Int32) → (Nat → Int32) → (Nat → Int32) → (Nat → Int32) → (Nat → Int32) → (Nat → Int32) → (Nat → Int32) → (Nat → Int32) → Prop} {q_J63 : Nat → Nat → Nat → Nat → Nat → Nat → Nat → Nat → Nat → Nat → Nat → Bool} {w_x1 : Int32} {x1 : Nat} {w_x2 : Int32} {x2 : Nat} {w_x3 : Int32} {x3 : Nat} {w_z0 : Int32} {z0 : Nat} {f0_absent : Nat} {f0_queueEnd : Nat} {am421 : Nat} {am422 : Nat} {am423 : Nat} {am424 : Nat} {am425 : Nat} {am426 : Nat} {am427 : Nat} {am428 : Nat} (h : bd_X_search_99 q_post q_J47 q_J63 x1 x2 x3 z0 f0_absent f0_queueEnd am421 am422 am423 am424 am425 am426 am427 am428 = true) (h_post : ∀ v0 v1 v2 v3 v4 v5 v6 v7 v8 v9 v10 : Nat, q_post v0 v1 v2 v3 v4 v5 v6 v7 v8 v9 v10 = true → post (nI v0) ((nI v1), (nI v2), (bd_ar v3), (bd_ar v4), (bd_ar v5), (bd_ar v6), (bd_ar v7), (bd_ar v8), (bd_ar v9), (bd_ar v10))) (h_J47 : ∀ v0 v1 v2 v3 v4 v5 v6 v7 v8 v9 v10 : Nat, q_J47 v0 v1 v2 v3 v4 v5 v6 v7 v8 v9 v10 = true → J47 (nI v0) (nI v1) (nI v2) (bd_ar v3) (bd_ar v4) (bd_ar v5) (bd_ar v6) (bd_ar v7) (bd_ar v8) (bd_ar v9) (bd_ar v10)) (h_J63 : ∀ v0 v1 v2 v3 v4 v5 v6 v7 v8 v9 v10 : Nat, q_J63 v0 v1 v2 v3 v4 v5 v6 v7 v8 v9 v10 = true → J63 (nI v0) (nI v1) (nI v2) (bd_ar v3) (bd_ar v4) (bd_ar v5) (bd_ar v6) (bd_ar v7) (bd_ar v8) (bd_ar v9) (bd_ar v10)) (e_x1 : w_x1 = nI x1) (e_x2 : w_x2 = nI x2) (e_x3 : w_x3 = nI x3) (e_z0 : w_z0 = nI z0) : wX_search_99 post J47 J63 w_x1 w_x2 w_x3 w_z0 (nI f0_absent) (nI f0_queueEnd) (bd_ar am421) (bd_ar am422) (bd_ar am423) (bd_ar am424) (bd_ar am425) (bd_ar am426) (bd_ar am427) (bd_ar am428) := by
  subst e_x1
  subst e_x2
  subst e_x3
  subst e_z0
  unfold wX_search_99
  unfold bd_X_search_99 at h
  exact (cb_br h (hm_eq rfl hm_0) (fun h => (sd_X_search_122 h h_post h_J47 h_J63 rfl rfl rfl hm_m1)) (fun h => (cb_in h rfl (fun h => (sd_pX_follow h (fun r_40 f0_absent_41 f0_queueEnd_42 am1151_45 am1152_48 am1153_51 am1154_54 am1155_57 am1156_60 am1157_63 am1158_66 h => (sd_X_search_122 h h_post h_J47 h_J63 rfl rfl rfl rfl)) (hm_get rfl rfl) rfl rfl)))))
def bd_X_search_98 (post : Nat → Nat → Nat → Nat → Nat → Nat → Nat → Nat → Nat → Nat → Nat → Bool) (J47 : Nat → Nat → Nat → Nat → Nat → Nat → Nat → Nat → Nat → Nat → Nat → Bool) (J63 : Nat → Nat → Nat → Nat → Nat → Nat → Nat → Nat → Nat → Nat → Nat → Bool) (x1 : Nat) (x2 : Nat) (x3 : Nat) (f0_absent : Nat) (f0_queueEnd : Nat) (am421 : Nat) (am422 : Nat) (am423 : Nat) (am424 : Nat) (am425 : Nat) (am426 : Nat) (am427 : Nat) (am428 : Nat) : Bool := (bd_X_search_99 post J47 J63 x1 x2 x3 0 f0_absent f0_queueEnd am421 am422 am423 am424 am425 am426 am427 am428)
theorem sd_X_search_98 {post : Int32 → St2 → Prop} {q_post : Nat → Nat → Nat → Nat → Nat → Nat → Nat → Nat → Nat → Nat → Nat → Bool} {J47 : Int32 → Int32 → Int32 → (Nat → Int32) → (Nat → Int32) → (Nat → Int32) → (Nat → Int32) → (Nat → Int32) → (Nat → Int32) → (Nat → Int32) → (Nat → Int32) → Prop} {q_J47 : Nat → Nat → Nat → Nat → Nat → Nat → Nat → Nat → Nat → Nat → Nat → Bool} {J63 : Int32 → Int32 → Int32 → (Nat → Int32) → (Nat → Int32) → (Nat → Int32) → (Nat → Int32) → (Nat → Int32) → (Nat → Int32) → (Nat → Int32) → (Nat → Int32) → Prop} {q_J63 : Nat → Nat → Nat → Nat → Nat → Nat → Nat → Nat → Nat → Nat → Nat → Bool} {w_x1 : Int32} {x1 : Nat} {w_x2 : Int32} {x2 : Nat} {w_x3 : Int32} {x3 : Nat} {f0_absent : Nat} {f0_queueEnd : Nat} {am421 : Nat} {am422 : Nat} {am423 : Nat} {am424 : Nat} {am425 : Nat} {am426 : Nat} {am427 : Nat} {am428 : Nat} (h : bd_X_search_98 q_post q_J47 q_J63 x1 x2 x3 f0_absent f0_queueEnd am421 am422 am423 am424 am425 am426 am427 am428 = true) (h_post : ∀ v0 v1 v2 v3 v4 v5 v6 v7 v8 v9 v10 : Nat, q_post v0 v1 v2 v3 v4 v5 v6 v7 v8 v9 v10 = true → post (nI v0) ((nI v1), (nI v2), (bd_ar v3), (bd_ar v4), (bd_ar v5), (bd_ar v6), (bd_ar v7), (bd_ar v8), (bd_ar v9), (bd_ar v10))) (h_J47 : ∀ v0 v1 v2 v3 v4 v5 v6 v7 v8 v9 v10 : Nat, q_J47 v0 v1 v2 v3 v4 v5 v6 v7 v8 v9 v10 = true → J47 (nI v0) (nI v1) (nI v2) (bd_ar v3) (bd_ar v4) (bd_ar v5) (bd_ar v6) (bd_ar v7) (bd_ar v8) (bd_ar v9) (bd_ar v10)) (h_J63 : ∀ v0 v1 v2 v3 v4 v5 v6 v7 v8 v9 v10 : Nat, q_J63 v0 v1 v2 v3 v4 v5 v6 v7 v8 v9 v10 = true → J63 (nI v0) (nI v1) (nI v2) (bd_ar v3) (bd_ar v4) (bd_ar v5) (bd_ar v6) (bd_ar v7) (bd_ar v8) (bd_ar v9) (bd_ar v10)) (e_x1 : w_x1 = nI x1) (e_x2 : w_x2 = nI x2) (e_x3 : w_x3 = nI x3) : wX_search_98 post J47 J63 w_x1 w_x2 w_x3 (nI f0_absent) (nI f0_queueEnd) (bd_ar am421) (bd_ar am422) (bd_ar am423) (bd_ar am424) (bd_ar am425) (bd_ar am426) (bd_ar am427) (bd_ar am428) := by
  subst e_x1
  subst e_x2
  subst e_x3
  unfold wX_search_98
  unfold bd_X_search_98 at h
  exact (sd_X_search_99 h h_post h_J47 h_J63 rfl rfl rfl hm_0)
def bd_X_search_63 (post : Nat → Nat → Nat → Nat → Nat → Nat → Nat → Nat → Nat → Nat → Nat → Bool) (J47 : Nat → Nat → Nat → Nat → Nat → Nat → Nat → Nat → Nat → Nat → Nat → Bool) (x1 : Nat) (x2 : Nat) : Nat → Nat → Nat → Nat → Nat → Nat → Nat → Nat → Nat → Nat → Nat → Nat → Bool
  | 0 => fun _ _ _ _ _ _ _ _ _ _ _ => false
  | n + 1 => fun x3 f0_absent f0_queueEnd am421 am422 am423 am424 am425 am426 am427 am428 => (cond (bd_le 10 x3) ((fun x2_32 : Nat => (J47 x2_32 f0_absent f0_queueEnd am421 am422 am423 am424 am425 am426 am427 am428)) (Nat.add x2 1)) (cond (bd_in x2) (bd_pX_isLine (fun r_34 => (cond (bd_eq r_34 0) (bd_X_search_98 post J47 (bd_X_search_63 post J47 x1 x2 n) x1 x2 x3 f0_absent f0_queueEnd am421 am422 am423 am424 am425 am426 am427 am428) (cond (bd_eq (Nat.land (Nat.shiftRight (Nat.mod f0_absent 4294967296) (Nat.mod x3 32)) 1) 0) (bd_X_search_99 post J47 (bd_X_search_63 post J47 x1 x2 n) x1 x2 x3 1 f0_absent f0_queueEnd am421 am422 am423 am424 am425 am426 am427 am428) (bd_X_search_98 post J47 (bd_X_search_63 post J47 x1 x2 n) x1 x2 x3 f0_absent f0_queueEnd am421 am422 am423 am424 am425 am426 am427 am428)))) f0_absent f0_queueEnd am421 am422 am423 am424 am425 am426 am427 am428 (bd_gt am428 (bd_cl x2)) x3) false))
theorem sd_X_search_63 {post : Int32 → St2 → Prop} {q_post : Nat → Nat → Nat → Nat → Nat → Nat → Nat → Nat → Nat → Nat → Nat → Bool} {J47 : Int32 → Int32 → Int32 → (Nat → Int32) → (Nat → Int32) → (Nat → Int32) → (Nat → Int32) → (Nat → Int32) → (Nat → Int32) → (Nat → Int32) → (Nat → Int32) → Prop} {q_J47 : Nat → Nat → Nat → Nat → Nat → Nat → Nat → Nat → Nat → Nat → Nat → Bool} {x1 : Nat} {x2 : Nat} (h_post : ∀ v0 v1 v2 v3 v4 v5 v6 v7 v8 v9 v10 : Nat, q_post v0 v1 v2 v3 v4 v5 v6 v7 v8 v9 v10 = true → post (nI v0) ((nI v1), (nI v2), (bd_ar v3), (bd_ar v4), (bd_ar v5), (bd_ar v6), (bd_ar v7), (bd_ar v8), (bd_ar v9), (bd_ar v10))) (h_J47 : ∀ v0 v1 v2 v3 v4 v5 v6 v7 v8 v9 v10 : Nat, q_J47 v0 v1 v2 v3 v4 v5 v6 v7 v8 v9 v10 = true → J47 (nI v0) (nI v1) (nI v2) (bd_ar v3) (bd_ar v4) (bd_ar v5) (bd_ar v6) (bd_ar v7) (bd_ar v8) (bd_ar v9) (bd_ar v10)) : ∀ (n : Nat) (x3 f0_absent f0_queueEnd am421 am422 am423 am424 am425 am426 am427 am428 : Nat), bd_X_search_63 q_post q_J47 x1 x2 n x3 f0_absent f0_queueEnd am421 am422 am423 am424 am425 am426 am427 am428 = true → wX_search_63 post J47 (nI x1) (nI x2) n (nI x3) (nI f0_absent) (nI f0_queueEnd) (bd_ar am421) (bd_ar am422) (bd_ar am423) (bd_ar am424) (bd_ar am425) (bd_ar am426) (bd_ar am427) (bd_ar am428) := by
  intro n
  induction n with
  | zero => intro x3 f0_absent f0_queueEnd am421 am422 am423 am424 am425 am426 am427 am428 h; exact absurd h Bool.false_ne_true
  | succ n ih =>
    intro x3 f0_absent f0_queueEnd am421 am422 am423 am424 am425 am426 am427 am428 h
    unfold bd_X_search_63 at h
    exact (cb_br h (hm_le hm_10 rfl) (fun h => (nm_r (hm_add rfl hm_1) (h_J47 _ _ _ _ _ _ _ _ _ _ _ h))) (fun h => (cb_in h rfl (fun h => (sd_pX_isLine h (fun r_34 h => (cb_br h (hm_eq rfl hm_0) (fun h => (sd_X_search_98 h h_post h_J47 ih rfl rfl rfl)) (fun h => (cb_br h (hm_eq (hm_and (hm_ushr rfl rfl) hm_1) hm_0) (fun h => (sd_X_search_99 h h_post h_J47 ih rfl rfl rfl hm_1)) (fun h => (sd_X_search_98 h h_post h_J47 ih rfl rfl rfl)))))) (hm_get rfl rfl) rfl)))))
def bd_X_search_47 (post : Nat → Nat → Nat → Nat → Nat → Nat → Nat → Nat → Nat → Nat → Nat → Bool) (x1 : Nat) : Nat → Nat → Nat → Nat → Nat → Nat → Nat → Nat → Nat → Nat → Nat → Nat → Bool
  | 0 => fun _ _ _ _ _ _ _ _ _ _ _ => false
  | n + 1 => fun x2 f0_absent f0_queueEnd am421 am422 am423 am424 am425 am426 am427 am428 => (cond (bd_le f0_queueEnd x2) (post 4294967295 f0_absent f0_queueEnd am421 am422 am423 am424 am425 am426 am427 am428) (cond (bd_le 10 x2) (post 4294967295 f0_absent f0_queueEnd am421 am422 am423 am424 am425 am426 am427 am428) (bd_X_search_63 post (bd_X_search_47 post x1 n) x1 x2 12 0 f0_absent f0_queueEnd am421 am422 am423 am424 am425 am426 am427 am428)))
theorem sd_X_search_47 {post : Int32 → St2 → Prop} {q_post : Nat → Nat → Nat → Nat → Nat → Nat → Nat → Nat → Nat → Nat → Nat → Bool} {x1 : Nat} (h_post : ∀ v0 v1 v2 v3 v4 v5 v6 v7 v8 v9 v10 : Nat, q_post v0 v1 v2 v3 v4 v5 v6 v7 v8 v9 v10 = true → post (nI v0) ((nI v1), (nI v2), (bd_ar v3), (bd_ar v4), (bd_ar v5), (bd_ar v6), (bd_ar v7), (bd_ar v8), (bd_ar v9), (bd_ar v10))) : ∀ (n : Nat) (x2 f0_absent f0_queueEnd am421 am422 am423 am424 am425 am426 am427 am428 : Nat), bd_X_search_47 q_post x1 n x2 f0_absent f0_queueEnd am421 am422 am423 am424 am425 am426 am427 am428 = true → wX_search_47 post (nI x1) n (nI x2) (nI f0_absent) (nI f0_queueEnd) (bd_ar am421) (bd_ar am422) (bd_ar am423) (bd_ar am424) (bd_ar am425) (bd_ar am426) (bd_ar am427) (bd_ar am428) := by
  intro n
  induction n with
  | zero => intro x2 f0_absent f0_queueEnd am421 am422 am423 am424 am425 am426 am427 am428 h; exact absurd h Bool.false_ne_true
  | succ n ih =>
    intro x2 f0_absent f0_queueEnd am421 am422 am423 am424 am425 am426 am427 am428 h
    unfold bd_X_search_47 at h
    exact (cb_br h (hm_le rfl rfl) (fun h => (cb_eq (F := fun z => post z _) hm_m1 (h_post _ _ _ _ _ _ _ _ _ _ _ h))) (fun h => (cb_br h (hm_le hm_10 rfl) (fun h => (cb_eq (F := fun z => post z _) hm_m1 (h_post _ _ _ _ _ _ _ _ _ _ _ h))) (fun h => (Exists.intro 12 (sd_X_search_63 h_post ih 12 _ _ _ _ _ _ _ _ _ _ _ h))))))
def bd_X_search_2 (post : Nat → Nat → Nat → Nat → Nat → Nat → Nat → Nat → Nat → Nat → Nat → Bool) (x1 : Nat) (f0_absent : Nat) (f0_queueEnd : Nat) : Nat → Nat → Nat → Nat → Nat → Nat → Nat → Nat → Nat → Nat → Bool
  | 0 => fun _ _ _ _ _ _ _ _ _ => false
  | n + 1 => fun x2 a1 a2 a3 a4 a5 a6 a7 a8 => (cond (bd_le 10 x2) (bd_pX_makeOuter (fun f0_absent_3 f0_queueEnd_4 am421_7 am422_10 am423_13 am424_16 am425_19 am426_22 am427_25 am428_28 => (bd_X_search_47 post x1 12 0 f0_absent_3 f0_queueEnd_4 am421_7 am422_10 am423_13 am424_16 am425_19 am426_22 am427_25 am428_28)) f0_absent 0 a1 a2 a3 a4 a5 a6 a7 a8 x1) (cond (bd_in x2) ((fun a3_69 : Nat => (cond (bd_in x2) ((fun a4_71 : Nat => (cond (bd_in x2) ((fun a5_73 : Nat => ((fun x2_74 : Nat => (bd_X_search_2 post x1 f0_absent f0_queueEnd n x2_74 a1 a2 a3_69 a4_71 a5_73 a6 a7 a8)) (Nat.add x2 1))) (bd_st a5 (bd_cl x2) x2)) false)) (bd_st a4 (bd_cl x2) 4294967295)) false)) (bd_st a3 (bd_cl x2) 0)) false))
theorem sd_X_search_2 {post : Int32 → St2 → Prop} {q_post : Nat → Nat → Nat → Nat → Nat → Nat → Nat → Nat → Nat → Nat → Nat → Bool} {x1 : Nat} {f0_absent : Nat} {f0_queueEnd : Nat} (h_post : ∀ v0 v1 v2 v3 v4 v5 v6 v7 v8 v9 v10 : Nat, q_post v0 v1 v2 v3 v4 v5 v6 v7 v8 v9 v10 = true → post (nI v0) ((nI v1), (nI v2), (bd_ar v3), (bd_ar v4), (bd_ar v5), (bd_ar v6), (bd_ar v7), (bd_ar v8), (bd_ar v9), (bd_ar v10))) : ∀ (n : Nat) (x2 a1 a2 a3 a4 a5 a6 a7 a8 : Nat), bd_X_search_2 q_post x1 f0_absent f0_queueEnd n x2 a1 a2 a3 a4 a5 a6 a7 a8 = true → wX_search_2 post (nI x1) (nI f0_absent) (nI f0_queueEnd) n (nI x2) (bd_ar a1) (bd_ar a2) (bd_ar a3) (bd_ar a4) (bd_ar a5) (bd_ar a6) (bd_ar a7) (bd_ar a8) := by
  intro n
  induction n with
  | zero => intro x2 a1 a2 a3 a4 a5 a6 a7 a8 h; exact absurd h Bool.false_ne_true
  | succ n ih =>
    intro x2 a1 a2 a3 a4 a5 a6 a7 a8 h
    unfold bd_X_search_2 at h
    exact (cb_br h (hm_le hm_10 rfl) (fun h => (sd_pX_makeOuter h (fun f0_absent_3 f0_queueEnd_4 am421_7 am422_10 am423_13 am424_16 am425_19 am426_22 am427_25 am428_28 h => (Exists.intro 12 (sd_X_search_47 h_post 12 _ _ _ _ _ _ _ _ _ _ _ h))) rfl)) (fun h => (cb_in h rfl (fun h => (nm_r (hm_upd rfl rfl hm_0) (cb_in h rfl (fun h => (nm_r (hm_upd rfl rfl hm_m1) (cb_in h rfl (fun h => (nm_r (hm_upd rfl rfl rfl) (nm_r (hm_add rfl hm_1) (ih _ _ _ _ _ _ _ _ _ h)))))))))))))
def bd_pX_search (post : Nat → Nat → Nat → Nat → Nat → Nat → Nat → Nat → Nat → Nat → Nat → Bool) (f0_absent : Nat) (f0_queueEnd : Nat) (a1 : Nat) (a2 : Nat) (a3 : Nat) (a4 : Nat) (a5 : Nat) (a6 : Nat) (a7 : Nat) (a8 : Nat) (p0 : Nat) : Bool := (bd_X_search_2 post p0 f0_absent f0_queueEnd 12 0 a1 a2 a3 a4 a5 a6 a7 a8)
theorem sd_pX_search {post : Int32 → St2 → Prop} {q_post : Nat → Nat → Nat → Nat → Nat → Nat → Nat → Nat → Nat → Nat → Nat → Bool} {f0_absent f0_queueEnd a1 a2 a3 a4 a5 a6 a7 a8 : Nat} {w_p0 : Int32} {p0 : Nat} (h : bd_pX_search q_post f0_absent f0_queueEnd a1 a2 a3 a4 a5 a6 a7 a8 p0 = true) (h_post : ∀ v0 v1 v2 v3 v4 v5 v6 v7 v8 v9 v10 : Nat, q_post v0 v1 v2 v3 v4 v5 v6 v7 v8 v9 v10 = true → post (nI v0) ((nI v1), (nI v2), (bd_ar v3), (bd_ar v4), (bd_ar v5), (bd_ar v6), (bd_ar v7), (bd_ar v8), (bd_ar v9), (bd_ar v10))) (e_p0 : w_p0 = nI p0) : wpX_search post ((nI f0_absent), (nI f0_queueEnd), (bd_ar a1), (bd_ar a2), (bd_ar a3), (bd_ar a4), (bd_ar a5), (bd_ar a6), (bd_ar a7), (bd_ar a8)) w_p0 := by
  subst e_p0
  unfold wpX_search
  unfold bd_pX_search at h
  exact (Exists.intro 12 (sd_X_search_2 h_post 12 _ _ _ _ _ _ _ _ _ h))
end
section
def bd_X_turn_4 (post : Nat → Nat → Nat → Nat → Nat → Nat → Nat → Nat → Nat → Nat → Bool) (f0_absent : Nat) (f0_queueEnd : Nat) : Nat → Nat → Nat → Nat → Nat → Nat → Nat → Nat → Nat → Nat → Nat → Bool
  | 0 => fun _ _ _ _ _ _ _ _ _ _ => false
  | n + 1 => fun x2 x3 a1 a2 a3 a4 a5 a6 a7 a8 => (cond (bd_le 10 x3) (post f0_absent f0_queueEnd a1 a2 a3 a4 a5 a6 a7 a8) (cond (bd_lt x2 0) (post f0_absent f0_queueEnd a1 a2 a3 a4 a5 a6 a7 a8) (cond (bd_in x2) ((fun x4_4 : Nat => (cond (bd_in x4_4) ((fun x5_6 : Nat => (cond (bd_in x2) ((fun a2_8 : Nat => (cond (bd_in x4_4) ((fun a2_10 : Nat => ((fun x3_11 : Nat => (bd_X_turn_4 post f0_absent f0_queueEnd n x5_6 x3_11 a1 a2_10 a3 a4 a5 a6 a7 a8)) (Nat.add x3 1))) (bd_st a2_8 (bd_cl x4_4) x2)) false)) (bd_st a2 (bd_cl x2) x4_4)) false)) (bd_gt a2 (bd_cl x4_4))) false)) (bd_gt a4 (bd_cl x2))) false)))
theorem sd_X_turn_4 {post : St2 → Prop} {q_post : Nat → Nat → Nat → Nat → Nat → Nat → Nat → Nat → Nat → Nat → Bool} {f0_absent : Nat} {f0_queueEnd : Nat} (h_post : ∀ v0 v1 v2 v3 v4 v5 v6 v7 v8 v9 : Nat, q_post v0 v1 v2 v3 v4 v5 v6 v7 v8 v9 = true → post ((nI v0), (nI v1), (bd_ar v2), (bd_ar v3), (bd_ar v4), (bd_ar v5), (bd_ar v6), (bd_ar v7), (bd_ar v8), (bd_ar v9))) : ∀ (n : Nat) (x2 x3 a1 a2 a3 a4 a5 a6 a7 a8 : Nat), bd_X_turn_4 q_post f0_absent f0_queueEnd n x2 x3 a1 a2 a3 a4 a5 a6 a7 a8 = true → wX_turn_4 post (nI f0_absent) (nI f0_queueEnd) n (nI x2) (nI x3) (bd_ar a1) (bd_ar a2) (bd_ar a3) (bd_ar a4) (bd_ar a5) (bd_ar a6) (bd_ar a7) (bd_ar a8) := by
  intro n
  induction n with
  | zero => intro x2 x3 a1 a2 a3 a4 a5 a6 a7 a8 h; exact absurd h Bool.false_ne_true
  | succ n ih =>
    intro x2 x3 a1 a2 a3 a4 a5 a6 a7 a8 h
    unfold bd_X_turn_4 at h
    exact (cb_br h (hm_le hm_10 rfl) (fun h => (h_post _ _ _ _ _ _ _ _ _ _ h)) (fun h => (cb_br h (hm_lt rfl hm_0) (fun h => (h_post _ _ _ _ _ _ _ _ _ _ h)) (fun h => (cb_in h rfl (fun h => (nm_r (hm_get rfl rfl) (cb_in h rfl (fun h => (nm_r (hm_get rfl rfl) (cb_in h rfl (fun h => (nm_r (hm_upd rfl rfl rfl) (cb_in h rfl (fun h => (nm_r (hm_upd rfl rfl rfl) (nm_r (hm_add rfl hm_1) (ih _ _ _ _ _ _ _ _ _ _ h))))))))))))))))))
def bd_pX_turn (post : Nat → Nat → Nat → Nat → Nat → Nat → Nat → Nat → Nat → Nat → Bool) (f0_absent : Nat) (f0_queueEnd : Nat) (a1 : Nat) (a2 : Nat) (a3 : Nat) (a4 : Nat) (a5 : Nat) (a6 : Nat) (a7 : Nat) (a8 : Nat) (p0 : Nat) : Bool := (bd_X_turn_4 post f0_absent f0_queueEnd 12 p0 0 a1 a2 a3 a4 a5 a6 a7 a8)
theorem sd_pX_turn {post : St2 → Prop} {q_post : Nat → Nat → Nat → Nat → Nat → Nat → Nat → Nat → Nat → Nat → Bool} {f0_absent f0_queueEnd a1 a2 a3 a4 a5 a6 a7 a8 : Nat} {w_p0 : Int32} {p0 : Nat} (h : bd_pX_turn q_post f0_absent f0_queueEnd a1 a2 a3 a4 a5 a6 a7 a8 p0 = true) (h_post : ∀ v0 v1 v2 v3 v4 v5 v6 v7 v8 v9 : Nat, q_post v0 v1 v2 v3 v4 v5 v6 v7 v8 v9 = true → post ((nI v0), (nI v1), (bd_ar v2), (bd_ar v3), (bd_ar v4), (bd_ar v5), (bd_ar v6), (bd_ar v7), (bd_ar v8), (bd_ar v9))) (e_p0 : w_p0 = nI p0) : wpX_turn post ((nI f0_absent), (nI f0_queueEnd), (bd_ar a1), (bd_ar a2), (bd_ar a3), (bd_ar a4), (bd_ar a5), (bd_ar a6), (bd_ar a7), (bd_ar a8)) w_p0 := by
  subst e_p0
  unfold wpX_turn
  unfold bd_pX_turn at h
  exact (Exists.intro 12 (sd_X_turn_4 h_post 12 _ _ _ _ _ _ _ _ _ _ h))
def bd_X_pairWithout_30 (post : Nat → Nat → Nat → Nat → Nat → Nat → Nat → Nat → Nat → Nat → Nat → Bool) : Nat → Nat → Nat → Nat → Nat → Nat → Nat → Nat → Nat → Nat → Nat → Nat → Nat → Bool
  | 0 => fun _ _ _ _ _ _ _ _ _ _ _ _ => false
  | n + 1 => fun x2 x3 f0_absent f0_queueEnd a1 a2 a3 a4 a5 a6 a7 a8 => (cond (bd_le 10 x3) (post x2 f0_absent f0_queueEnd a1 a2 a3 a4 a5 a6 a7 a8) (cond (bd_in x3) (cond (bd_le 0 (bd_gt a2 (bd_cl x3))) ((fun x3_5 : Nat => (bd_X_pairWithout_30 post n x2 x3_5 f0_absent f0_queueEnd a1 a2 a3 a4 a5 a6 a7 a8)) (Nat.add x3 1)) (cond (bd_eq (Nat.land (Nat.shiftRight (Nat.mod f0_absent 4294967296) (Nat.mod x3 32)) 1) 0) (bd_pX_search (fun r_8 f0_absent_9 f0_queueEnd_10 am581_13 am582_16 am583_19 am584_22 am585_25 am586_28 am587_31 am588_34 => (cond (bd_lt r_8 0) ((fun x3_36 : Nat => (bd_X_pairWithout_30 post n x2 x3_36 f0_absent_9 f0_queueEnd_10 am581_13 am582_16 am583_19 am584_22 am585_25 am586_28 am587_31 am588_34)) (Nat.add x3 1)) (bd_pX_turn (fun f0_absent_38 f0_queueEnd_39 am711_42 am712_45 am713_48 am714_51 am715_54 am716_57 am717_60 am718_63 => ((fun x2_64 : Nat => ((fun x3_65 : Nat => (bd_X_pairWithout_30 post n x2_64 x3_65 f0_absent_38 f0_queueEnd_39 am711_42 am712_45 am713_48 am714_51 am715_54 am716_57 am717_60 am718_63)) (Nat.add x3 1))) (Nat.add x2 1))) f0_absent_9 f0_queueEnd_10 am581_13 am582_16 am583_19 am584_22 am585_25 am586_28 am587_31 am588_34 r_8))) f0_absent f0_queueEnd a1 a2 a3 a4 a5 a6 a7 a8 x3) ((fun x3_7 : Nat => (bd_X_pairWithout_30 post n x2 x3_7 f0_absent f0_queueEnd a1 a2 a3 a4 a5 a6 a7 a8)) (Nat.add x3 1)))) false))
theorem sd_X_pairWithout_30 {post : Int32 → St2 → Prop} {q_post : Nat → Nat → Nat → Nat → Nat → Nat → Nat → Nat → Nat → Nat → Nat → Bool} (h_post : ∀ v0 v1 v2 v3 v4 v5 v6 v7 v8 v9 v10 : Nat, q_post v0 v1 v2 v3 v4 v5 v6 v7 v8 v9 v10 = true → post (nI v0) ((nI v1), (nI v2), (bd_ar v3), (bd_ar v4), (bd_ar v5), (bd_ar v6), (bd_ar v7), (bd_ar v8), (bd_ar v9), (bd_ar v10))) : ∀ (n : Nat) (x2 x3 f0_absent f0_queueEnd a1 a2 a3 a4 a5 a6 a7 a8 : Nat), bd_X_pairWithout_30 q_post n x2 x3 f0_absent f0_queueEnd a1 a2 a3 a4 a5 a6 a7 a8 = true → wX_pairWithout_30 post n (nI x2) (nI x3) (nI f0_absent) (nI f0_queueEnd) (bd_ar a1) (bd_ar a2) (bd_ar a3) (bd_ar a4) (bd_ar a5) (bd_ar a6) (bd_ar a7) (bd_ar a8) := by
  intro n
  induction n with
  | zero => intro x2 x3 f0_absent f0_queueEnd a1 a2 a3 a4 a5 a6 a7 a8 h; exact absurd h Bool.false_ne_true
  | succ n ih =>
    intro x2 x3 f0_absent f0_queueEnd a1 a2 a3 a4 a5 a6 a7 a8 h
    unfold bd_X_pairWithout_30 at h
    exact (cb_br h (hm_le hm_10 rfl) (fun h => (h_post _ _ _ _ _ _ _ _ _ _ _ h)) (fun h => (cb_in h rfl (fun h => (cb_br h (hm_le hm_0 (hm_get rfl rfl)) (fun h => (nm_r (hm_add rfl hm_1) (ih _ _ _ _ _ _ _ _ _ _ _ _ h))) (fun h => (cb_br h (hm_eq (hm_and (hm_ushr rfl rfl) hm_1) hm_0) (fun h => (sd_pX_search h (fun r_8 f0_absent_9 f0_queueEnd_10 am581_13 am582_16 am583_19 am584_22 am585_25 am586_28 am587_31 am588_34 h => (cb_br h (hm_lt rfl hm_0) (fun h => (nm_r (hm_add rfl hm_1) (ih _ _ _ _ _ _ _ _ _ _ _ _ h))) (fun h => (sd_pX_turn h (fun f0_absent_38 f0_queueEnd_39 am711_42 am712_45 am713_48 am714_51 am715_54 am716_57 am717_60 am718_63 h => (nm_r (hm_add rfl hm_1) (nm_r (hm_add rfl hm_1) (ih _ _ _ _ _ _ _ _ _ _ _ _ h)))) rfl)))) rfl)) (fun h => (nm_r (hm_add rfl hm_1) (ih _ _ _ _ _ _ _ _ _ _ _ _ h))))))))))
def bd_X_pairWithout_7 (post : Nat → Nat → Nat → Nat → Nat → Nat → Nat → Nat → Nat → Nat → Nat → Bool) (f0_absent : Nat) (f0_queueEnd : Nat) : Nat → Nat → Nat → Nat → Nat → Nat → Nat → Nat → Nat → Nat → Bool
  | 0 => fun _ _ _ _ _ _ _ _ _ => false
  | n + 1 => fun x2 a1 a2 a3 a4 a5 a6 a7 a8 => (cond (bd_le 10 x2) (bd_X_pairWithout_30 post 12 0 0 f0_absent f0_queueEnd a1 a2 a3 a4 a5 a6 a7 a8) (cond (bd_in x2) ((fun a2_67 : Nat => ((fun x2_68 : Nat => (bd_X_pairWithout_7 post f0_absent f0_queueEnd n x2_68 a1 a2_67 a3 a4 a5 a6 a7 a8)) (Nat.add x2 1))) (bd_st a2 (bd_cl x2) 4294967295)) false))
theorem sd_X_pairWithout_7 {post : Int32 → St2 → Prop} {q_post : Nat → Nat → Nat → Nat → Nat → Nat → Nat → Nat → Nat → Nat → Nat → Bool} {f0_absent : Nat} {f0_queueEnd : Nat} (h_post : ∀ v0 v1 v2 v3 v4 v5 v6 v7 v8 v9 v10 : Nat, q_post v0 v1 v2 v3 v4 v5 v6 v7 v8 v9 v10 = true → post (nI v0) ((nI v1), (nI v2), (bd_ar v3), (bd_ar v4), (bd_ar v5), (bd_ar v6), (bd_ar v7), (bd_ar v8), (bd_ar v9), (bd_ar v10))) : ∀ (n : Nat) (x2 a1 a2 a3 a4 a5 a6 a7 a8 : Nat), bd_X_pairWithout_7 q_post f0_absent f0_queueEnd n x2 a1 a2 a3 a4 a5 a6 a7 a8 = true → wX_pairWithout_7 post (nI f0_absent) (nI f0_queueEnd) n (nI x2) (bd_ar a1) (bd_ar a2) (bd_ar a3) (bd_ar a4) (bd_ar a5) (bd_ar a6) (bd_ar a7) (bd_ar a8) := by
  intro n
  induction n with
  | zero => intro x2 a1 a2 a3 a4 a5 a6 a7 a8 h; exact absurd h Bool.false_ne_true
  | succ n ih =>
    intro x2 a1 a2 a3 a4 a5 a6 a7 a8 h
    unfold bd_X_pairWithout_7 at h
    exact (cb_br h (hm_le hm_10 rfl) (fun h => (Exists.intro 12 (sd_X_pairWithout_30 h_post 12 _ _ _ _ _ _ _ _ _ _ _ _ h))) (fun h => (cb_in h rfl (fun h => (nm_r (hm_upd rfl rfl hm_m1) (nm_r (hm_add rfl hm_1) (ih _ _ _ _ _ _ _ _ _ h)))))))
def bd_pX_pairWithout (post : Nat → Nat → Nat → Nat → Nat → Nat → Nat → Nat → Nat → Nat → Nat → Bool) (f0_absent : Nat) (f0_queueEnd : Nat) (a1 : Nat) (a2 : Nat) (a3 : Nat) (a4 : Nat) (a5 : Nat) (a6 : Nat) (a7 : Nat) (a8 : Nat) (p0 : Nat) : Bool := (bd_X_pairWithout_7 post p0 f0_queueEnd 12 0 a1 a2 a3 a4 a5 a6 a7 a8)
theorem sd_pX_pairWithout {post : Int32 → St2 → Prop} {q_post : Nat → Nat → Nat → Nat → Nat → Nat → Nat → Nat → Nat → Nat → Nat → Bool} {f0_absent f0_queueEnd a1 a2 a3 a4 a5 a6 a7 a8 : Nat} {w_p0 : Int32} {p0 : Nat} (h : bd_pX_pairWithout q_post f0_absent f0_queueEnd a1 a2 a3 a4 a5 a6 a7 a8 p0 = true) (h_post : ∀ v0 v1 v2 v3 v4 v5 v6 v7 v8 v9 v10 : Nat, q_post v0 v1 v2 v3 v4 v5 v6 v7 v8 v9 v10 = true → post (nI v0) ((nI v1), (nI v2), (bd_ar v3), (bd_ar v4), (bd_ar v5), (bd_ar v6), (bd_ar v7), (bd_ar v8), (bd_ar v9), (bd_ar v10))) (e_p0 : w_p0 = nI p0) : wpX_pairWithout post ((nI f0_absent), (nI f0_queueEnd), (bd_ar a1), (bd_ar a2), (bd_ar a3), (bd_ar a4), (bd_ar a5), (bd_ar a6), (bd_ar a7), (bd_ar a8)) w_p0 := by
  subst e_p0
  unfold wpX_pairWithout
  unfold bd_pX_pairWithout at h
  exact (Exists.intro 12 (sd_X_pairWithout_7 h_post 12 _ _ _ _ _ _ _ _ _ h))
def bd_pX_most (post : Nat → Nat → Nat → Nat → Nat → Nat → Nat → Nat → Nat → Nat → Nat → Bool) (f0_absent : Nat) (f0_queueEnd : Nat) (a1 : Nat) (a2 : Nat) (a3 : Nat) (a4 : Nat) (a5 : Nat) (a6 : Nat) (a7 : Nat) (a8 : Nat) : Bool := (bd_pX_pairWithout (fun r_1 f0_absent_2 f0_queueEnd_3 am21_6 am22_9 am23_12 am24_15 am25_18 am26_21 am27_24 am28_27 => (post r_1 f0_absent_2 f0_queueEnd_3 am21_6 am22_9 am23_12 am24_15 am25_18 am26_21 am27_24 am28_27)) f0_absent f0_queueEnd a1 a2 a3 a4 a5 a6 a7 a8 0)
theorem sd_pX_most {post : Int32 → St2 → Prop} {q_post : Nat → Nat → Nat → Nat → Nat → Nat → Nat → Nat → Nat → Nat → Nat → Bool} {f0_absent f0_queueEnd a1 a2 a3 a4 a5 a6 a7 a8 : Nat} (h : bd_pX_most q_post f0_absent f0_queueEnd a1 a2 a3 a4 a5 a6 a7 a8 = true) (h_post : ∀ v0 v1 v2 v3 v4 v5 v6 v7 v8 v9 v10 : Nat, q_post v0 v1 v2 v3 v4 v5 v6 v7 v8 v9 v10 = true → post (nI v0) ((nI v1), (nI v2), (bd_ar v3), (bd_ar v4), (bd_ar v5), (bd_ar v6), (bd_ar v7), (bd_ar v8), (bd_ar v9), (bd_ar v10))) : wpX_most post ((nI f0_absent), (nI f0_queueEnd), (bd_ar a1), (bd_ar a2), (bd_ar a3), (bd_ar a4), (bd_ar a5), (bd_ar a6), (bd_ar a7), (bd_ar a8)) := by
  unfold wpX_most
  unfold bd_pX_most at h
  exact (sd_pX_pairWithout h (fun r_1 f0_absent_2 f0_queueEnd_3 am21_6 am22_9 am23_12 am24_15 am25_18 am26_21 am27_24 am28_27 h => (h_post _ _ _ _ _ _ _ _ _ _ _ h)) hm_0)
def bd_X_spares_27 (post : Nat → Nat → Nat → Nat → Nat → Nat → Nat → Nat → Nat → Nat → Nat → Bool) (J4 : Nat → Nat → Nat → Nat → Nat → Nat → Nat → Nat → Nat → Nat → Nat → Nat → Bool) (x2 : Nat) (f0_absent : Nat) (f0_queueEnd : Nat) (am211 : Nat) (am212 : Nat) (am213 : Nat) (am214 : Nat) (am215 : Nat) (am216 : Nat) (am217 : Nat) (am218 : Nat) : Nat → Nat → Nat → Bool
  | 0 => fun _ _ => false
  | n + 1 => fun x1 x3 => (cond (bd_le 10 x3) ((fun x2_33 : Nat => (J4 x1 x2_33 f0_absent f0_queueEnd am211 am212 am213 am214 am215 am216 am217 am218)) (Nat.add x2 1)) (cond (bd_in x3) (cond (bd_eq (bd_gt am213 (bd_cl x3)) 0) ((fun x1_36 : Nat => ((fun x3_37 : Nat => (bd_X_spares_27 post J4 x2 f0_absent f0_queueEnd am211 am212 am213 am214 am215 am216 am217 am218 n x1_36 x3_37)) (Nat.add x3 1))) (Nat.lor x1 0)) ((fun x1_38 : Nat => ((fun x3_39 : Nat => (bd_X_spares_27 post J4 x2 f0_absent f0_queueEnd am211 am212 am213 am214 am215 am216 am217 am218 n x1_38 x3_39)) (Nat.add x3 1))) (Nat.lor x1 (Nat.shiftLeft 1 (Nat.mod x3 32))))) false))
theorem sd_X_spares_27 {post : Int32 → St2 → Prop} {q_post : Nat → Nat → Nat → Nat → Nat → Nat → Nat → Nat → Nat → Nat → Nat → Bool} {J4 : Int32 → Int32 → Int32 → Int32 → (Nat → Int32) → (Nat → Int32) → (Nat → Int32) → (Nat → Int32) → (Nat → Int32) → (Nat → Int32) → (Nat → Int32) → (Nat → Int32) → Prop} {q_J4 : Nat → Nat → Nat → Nat → Nat → Nat → Nat → Nat → Nat → Nat → Nat → Nat → Bool} {x2 : Nat} {f0_absent : Nat} {f0_queueEnd : Nat} {am211 : Nat} {am212 : Nat} {am213 : Nat} {am214 : Nat} {am215 : Nat} {am216 : Nat} {am217 : Nat} {am218 : Nat} (h_post : ∀ v0 v1 v2 v3 v4 v5 v6 v7 v8 v9 v10 : Nat, q_post v0 v1 v2 v3 v4 v5 v6 v7 v8 v9 v10 = true → post (nI v0) ((nI v1), (nI v2), (bd_ar v3), (bd_ar v4), (bd_ar v5), (bd_ar v6), (bd_ar v7), (bd_ar v8), (bd_ar v9), (bd_ar v10))) (h_J4 : ∀ v0 v1 v2 v3 v4 v5 v6 v7 v8 v9 v10 v11 : Nat, q_J4 v0 v1 v2 v3 v4 v5 v6 v7 v8 v9 v10 v11 = true → J4 (nI v0) (nI v1) (nI v2) (nI v3) (bd_ar v4) (bd_ar v5) (bd_ar v6) (bd_ar v7) (bd_ar v8) (bd_ar v9) (bd_ar v10) (bd_ar v11)) : ∀ (n : Nat) (x1 x3 : Nat), bd_X_spares_27 q_post q_J4 x2 f0_absent f0_queueEnd am211 am212 am213 am214 am215 am216 am217 am218 n x1 x3 = true → wX_spares_27 post J4 (nI x2) (nI f0_absent) (nI f0_queueEnd) (bd_ar am211) (bd_ar am212) (bd_ar am213) (bd_ar am214) (bd_ar am215) (bd_ar am216) (bd_ar am217) (bd_ar am218) n (nI x1) (nI x3) := by
  intro n
  induction n with
  | zero => intro x1 x3 h; exact absurd h Bool.false_ne_true
  | succ n ih =>
    intro x1 x3 h
    unfold bd_X_spares_27 at h
    exact (cb_br h (hm_le hm_10 rfl) (fun h => (nm_r (hm_add rfl hm_1) (h_J4 _ _ _ _ _ _ _ _ _ _ _ _ h))) (fun h => (cb_in h rfl (fun h => (cb_br h (hm_eq (hm_get rfl rfl) hm_0) (fun h => (nm_r (hm_or rfl hm_0) (nm_r (hm_add rfl hm_1) (ih _ _ h)))) (fun h => (nm_r (hm_or rfl (hm_shl hm_1 rfl)) (nm_r (hm_add rfl hm_1) (ih _ _ h)))))))))
def bd_X_spares_4 (post : Nat → Nat → Nat → Nat → Nat → Nat → Nat → Nat → Nat → Nat → Nat → Bool) : Nat → Nat → Nat → Nat → Nat → Nat → Nat → Nat → Nat → Nat → Nat → Nat → Nat → Bool
  | 0 => fun _ _ _ _ _ _ _ _ _ _ _ _ => false
  | n + 1 => fun x1 x2 f0_absent f0_queueEnd a1 a2 a3 a4 a5 a6 a7 a8 => (cond (bd_le 10 x2) (post x1 f0_absent f0_queueEnd a1 a2 a3 a4 a5 a6 a7 a8) (cond (bd_in x2) (cond (bd_le 0 (bd_gt a2 (bd_cl x2))) ((fun x2_4 : Nat => (bd_X_spares_4 post n x1 x2_4 f0_absent f0_queueEnd a1 a2 a3 a4 a5 a6 a7 a8)) (Nat.add x2 1)) (bd_pX_search (fun r_5 f0_absent_6 f0_queueEnd_7 am211_10 am212_13 am213_16 am214_19 am215_22 am216_25 am217_28 am218_31 => (bd_X_spares_27 post (bd_X_spares_4 post n) x2 f0_absent_6 f0_queueEnd_7 am211_10 am212_13 am213_16 am214_19 am215_22 am216_25 am217_28 am218_31 12 x1 0)) f0_absent f0_queueEnd a1 a2 a3 a4 a5 a6 a7 a8 x2)) false))
theorem sd_X_spares_4 {post : Int32 → St2 → Prop} {q_post : Nat → Nat → Nat → Nat → Nat → Nat → Nat → Nat → Nat → Nat → Nat → Bool} (h_post : ∀ v0 v1 v2 v3 v4 v5 v6 v7 v8 v9 v10 : Nat, q_post v0 v1 v2 v3 v4 v5 v6 v7 v8 v9 v10 = true → post (nI v0) ((nI v1), (nI v2), (bd_ar v3), (bd_ar v4), (bd_ar v5), (bd_ar v6), (bd_ar v7), (bd_ar v8), (bd_ar v9), (bd_ar v10))) : ∀ (n : Nat) (x1 x2 f0_absent f0_queueEnd a1 a2 a3 a4 a5 a6 a7 a8 : Nat), bd_X_spares_4 q_post n x1 x2 f0_absent f0_queueEnd a1 a2 a3 a4 a5 a6 a7 a8 = true → wX_spares_4 post n (nI x1) (nI x2) (nI f0_absent) (nI f0_queueEnd) (bd_ar a1) (bd_ar a2) (bd_ar a3) (bd_ar a4) (bd_ar a5) (bd_ar a6) (bd_ar a7) (bd_ar a8) := by
  intro n
  induction n with
  | zero => intro x1 x2 f0_absent f0_queueEnd a1 a2 a3 a4 a5 a6 a7 a8 h; exact absurd h Bool.false_ne_true
  | succ n ih =>
    intro x1 x2 f0_absent f0_queueEnd a1 a2 a3 a4 a5 a6 a7 a8 h
    unfold bd_X_spares_4 at h
    exact (cb_br h (hm_le hm_10 rfl) (fun h => (h_post _ _ _ _ _ _ _ _ _ _ _ h)) (fun h => (cb_in h rfl (fun h => (cb_br h (hm_le hm_0 (hm_get rfl rfl)) (fun h => (nm_r (hm_add rfl hm_1) (ih _ _ _ _ _ _ _ _ _ _ _ _ h))) (fun h => (sd_pX_search h (fun r_5 f0_absent_6 f0_queueEnd_7 am211_10 am212_13 am213_16 am214_19 am215_22 am216_25 am217_28 am218_31 h => (Exists.intro 12 (sd_X_spares_27 h_post ih 12 _ _ h))) rfl)))))))
def bd_pX_spares (post : Nat → Nat → Nat → Nat → Nat → Nat → Nat → Nat → Nat → Nat → Nat → Bool) (f0_absent : Nat) (f0_queueEnd : Nat) (a1 : Nat) (a2 : Nat) (a3 : Nat) (a4 : Nat) (a5 : Nat) (a6 : Nat) (a7 : Nat) (a8 : Nat) : Bool := (bd_X_spares_4 post 12 0 0 f0_absent f0_queueEnd a1 a2 a3 a4 a5 a6 a7 a8)
theorem sd_pX_spares {post : Int32 → St2 → Prop} {q_post : Nat → Nat → Nat → Nat → Nat → Nat → Nat → Nat → Nat → Nat → Nat → Bool} {f0_absent f0_queueEnd a1 a2 a3 a4 a5 a6 a7 a8 : Nat} (h : bd_pX_spares q_post f0_absent f0_queueEnd a1 a2 a3 a4 a5 a6 a7 a8 = true) (h_post : ∀ v0 v1 v2 v3 v4 v5 v6 v7 v8 v9 v10 : Nat, q_post v0 v1 v2 v3 v4 v5 v6 v7 v8 v9 v10 = true → post (nI v0) ((nI v1), (nI v2), (bd_ar v3), (bd_ar v4), (bd_ar v5), (bd_ar v6), (bd_ar v7), (bd_ar v8), (bd_ar v9), (bd_ar v10))) : wpX_spares post ((nI f0_absent), (nI f0_queueEnd), (bd_ar a1), (bd_ar a2), (bd_ar a3), (bd_ar a4), (bd_ar a5), (bd_ar a6), (bd_ar a7), (bd_ar a8)) := by
  unfold wpX_spares
  unfold bd_pX_spares at h
  exact (Exists.intro 12 (sd_X_spares_4 h_post 12 _ _ _ _ _ _ _ _ _ _ _ _ h))
def bd_X_guards_15 (post : Nat → Nat → Nat → Nat → Nat → Nat → Nat → Nat → Nat → Nat → Nat → Bool) (x1 : Nat) (f0_absent : Nat) (f0_queueEnd : Nat) (am71 : Nat) (am72 : Nat) (am73 : Nat) (am74 : Nat) (am75 : Nat) (am76 : Nat) (am77 : Nat) (am78 : Nat) : Nat → Nat → Nat → Bool
  | 0 => fun _ _ => false
  | n + 1 => fun x2 x3 => (cond (bd_le 10 x3) (post (Nat.land x2 (Nat.xor x1 4294967295)) f0_absent f0_queueEnd am71 am72 am73 am74 am75 am76 am77 am78) (cond (bd_eq (Nat.land (Nat.shiftRight (Nat.mod x1 4294967296) (Nat.mod x3 32)) 1) 0) ((fun x2_57 : Nat => ((fun x3_58 : Nat => (bd_X_guards_15 post x1 f0_absent f0_queueEnd am71 am72 am73 am74 am75 am76 am77 am78 n x2_57 x3_58)) (Nat.add x3 1))) (Nat.lor x2 0)) (cond (bd_in x3) ((fun x2_60 : Nat => ((fun x3_61 : Nat => (bd_X_guards_15 post x1 f0_absent f0_queueEnd am71 am72 am73 am74 am75 am76 am77 am78 n x2_60 x3_61)) (Nat.add x3 1))) (Nat.lor x2 (bd_gt am71 (bd_cl x3)))) false)))
theorem sd_X_guards_15 {post : Int32 → St2 → Prop} {q_post : Nat → Nat → Nat → Nat → Nat → Nat → Nat → Nat → Nat → Nat → Nat → Bool} {x1 : Nat} {f0_absent : Nat} {f0_queueEnd : Nat} {am71 : Nat} {am72 : Nat} {am73 : Nat} {am74 : Nat} {am75 : Nat} {am76 : Nat} {am77 : Nat} {am78 : Nat} (h_post : ∀ v0 v1 v2 v3 v4 v5 v6 v7 v8 v9 v10 : Nat, q_post v0 v1 v2 v3 v4 v5 v6 v7 v8 v9 v10 = true → post (nI v0) ((nI v1), (nI v2), (bd_ar v3), (bd_ar v4), (bd_ar v5), (bd_ar v6), (bd_ar v7), (bd_ar v8), (bd_ar v9), (bd_ar v10))) : ∀ (n : Nat) (x2 x3 : Nat), bd_X_guards_15 q_post x1 f0_absent f0_queueEnd am71 am72 am73 am74 am75 am76 am77 am78 n x2 x3 = true → wX_guards_15 post (nI x1) (nI f0_absent) (nI f0_queueEnd) (bd_ar am71) (bd_ar am72) (bd_ar am73) (bd_ar am74) (bd_ar am75) (bd_ar am76) (bd_ar am77) (bd_ar am78) n (nI x2) (nI x3) := by
  intro n
  induction n with
  | zero => intro x2 x3 h; exact absurd h Bool.false_ne_true
  | succ n ih =>
    intro x2 x3 h
    unfold bd_X_guards_15 at h
    exact (cb_br h (hm_le hm_10 rfl) (fun h => (cb_eq (F := fun z => post z _) (hm_and rfl (hm_xor rfl hm_m1)) (h_post _ _ _ _ _ _ _ _ _ _ _ h))) (fun h => (cb_br h (hm_eq (hm_and (hm_ushr rfl rfl) hm_1) hm_0) (fun h => (nm_r (hm_or rfl hm_0) (nm_r (hm_add rfl hm_1) (ih _ _ h)))) (fun h => (cb_in h rfl (fun h => (nm_r (hm_or rfl (hm_get rfl rfl)) (nm_r (hm_add rfl hm_1) (ih _ _ h)))))))))
def bd_pX_guards (post : Nat → Nat → Nat → Nat → Nat → Nat → Nat → Nat → Nat → Nat → Nat → Bool) (f0_absent : Nat) (f0_queueEnd : Nat) (a1 : Nat) (a2 : Nat) (a3 : Nat) (a4 : Nat) (a5 : Nat) (a6 : Nat) (a7 : Nat) (a8 : Nat) : Bool := (bd_pX_pairWithout (fun r_1 f0_absent_2 f0_queueEnd_3 am21_6 am22_9 am23_12 am24_15 am25_18 am26_21 am27_24 am28_27 => (bd_pX_spares (fun r_28 f0_absent_29 f0_queueEnd_30 am71_33 am72_36 am73_39 am74_42 am75_45 am76_48 am77_51 am78_54 => (bd_X_guards_15 post r_28 f0_absent_29 f0_queueEnd_30 am71_33 am72_36 am73_39 am74_42 am75_45 am76_48 am77_51 am78_54 12 0 0)) f0_absent_2 f0_queueEnd_3 am21_6 am22_9 am23_12 am24_15 am25_18 am26_21 am27_24 am28_27)) f0_absent f0_queueEnd a1 a2 a3 a4 a5 a6 a7 a8 0)
theorem sd_pX_guards {post : Int32 → St2 → Prop} {q_post : Nat → Nat → Nat → Nat → Nat → Nat → Nat → Nat → Nat → Nat → Nat → Bool} {f0_absent f0_queueEnd a1 a2 a3 a4 a5 a6 a7 a8 : Nat} (h : bd_pX_guards q_post f0_absent f0_queueEnd a1 a2 a3 a4 a5 a6 a7 a8 = true) (h_post : ∀ v0 v1 v2 v3 v4 v5 v6 v7 v8 v9 v10 : Nat, q_post v0 v1 v2 v3 v4 v5 v6 v7 v8 v9 v10 = true → post (nI v0) ((nI v1), (nI v2), (bd_ar v3), (bd_ar v4), (bd_ar v5), (bd_ar v6), (bd_ar v7), (bd_ar v8), (bd_ar v9), (bd_ar v10))) : wpX_guards post ((nI f0_absent), (nI f0_queueEnd), (bd_ar a1), (bd_ar a2), (bd_ar a3), (bd_ar a4), (bd_ar a5), (bd_ar a6), (bd_ar a7), (bd_ar a8)) := by
  unfold wpX_guards
  unfold bd_pX_guards at h
  exact (sd_pX_pairWithout h (fun r_1 f0_absent_2 f0_queueEnd_3 am21_6 am22_9 am23_12 am24_15 am25_18 am26_21 am27_24 am28_27 h => (sd_pX_spares h (fun r_28 f0_absent_29 f0_queueEnd_30 am71_33 am72_36 am73_39 am74_42 am75_45 am76_48 am77_51 am78_54 h => (Exists.intro 12 (sd_X_guards_15 h_post 12 _ _ h))))) hm_0)
def bd_pX_spare (post : Nat → Nat → Nat → Nat → Nat → Nat → Nat → Nat → Nat → Nat → Nat → Bool) (f0_absent : Nat) (f0_queueEnd : Nat) (a1 : Nat) (a2 : Nat) (a3 : Nat) (a4 : Nat) (a5 : Nat) (a6 : Nat) (a7 : Nat) (a8 : Nat) (p0 : Nat) : Bool := (cond (bd_lt p0 0) (post 4294967295 f0_absent f0_queueEnd a1 a2 a3 a4 a5 a6 a7 a8) (cond (bd_le p0 9) (bd_pX_pairWithout (fun r_3 f0_absent_4 f0_queueEnd_5 am141_8 am142_11 am143_14 am144_17 am145_20 am146_23 am147_26 am148_29 => (bd_pX_spares (fun r_30 f0_absent_31 f0_queueEnd_32 am191_35 am192_38 am193_41 am194_44 am195_47 am196_50 am197_53 am198_56 => (post (Nat.land (Nat.shiftRight (Nat.mod r_30 4294967296) (Nat.mod p0 32)) 1) f0_absent_31 f0_queueEnd_32 am191_35 am192_38 am193_41 am194_44 am195_47 am196_50 am197_53 am198_56)) f0_absent_4 f0_queueEnd_5 am141_8 am142_11 am143_14 am144_17 am145_20 am146_23 am147_26 am148_29)) f0_absent f0_queueEnd a1 a2 a3 a4 a5 a6 a7 a8 0) (post 4294967295 f0_absent f0_queueEnd a1 a2 a3 a4 a5 a6 a7 a8)))
theorem sd_pX_spare {post : Int32 → St2 → Prop} {q_post : Nat → Nat → Nat → Nat → Nat → Nat → Nat → Nat → Nat → Nat → Nat → Bool} {f0_absent f0_queueEnd a1 a2 a3 a4 a5 a6 a7 a8 : Nat} {w_p0 : Int32} {p0 : Nat} (h : bd_pX_spare q_post f0_absent f0_queueEnd a1 a2 a3 a4 a5 a6 a7 a8 p0 = true) (h_post : ∀ v0 v1 v2 v3 v4 v5 v6 v7 v8 v9 v10 : Nat, q_post v0 v1 v2 v3 v4 v5 v6 v7 v8 v9 v10 = true → post (nI v0) ((nI v1), (nI v2), (bd_ar v3), (bd_ar v4), (bd_ar v5), (bd_ar v6), (bd_ar v7), (bd_ar v8), (bd_ar v9), (bd_ar v10))) (e_p0 : w_p0 = nI p0) : wpX_spare post ((nI f0_absent), (nI f0_queueEnd), (bd_ar a1), (bd_ar a2), (bd_ar a3), (bd_ar a4), (bd_ar a5), (bd_ar a6), (bd_ar a7), (bd_ar a8)) w_p0 := by
  subst e_p0
  unfold wpX_spare
  unfold bd_pX_spare at h
  exact (cb_br h (hm_lt rfl hm_0) (fun h => (cb_eq (F := fun z => post z _) hm_m1 (h_post _ _ _ _ _ _ _ _ _ _ _ h))) (fun h => (cb_br h (hm_le rfl hm_9) (fun h => (sd_pX_pairWithout h (fun r_3 f0_absent_4 f0_queueEnd_5 am141_8 am142_11 am143_14 am144_17 am145_20 am146_23 am147_26 am148_29 h => (sd_pX_spares h (fun r_30 f0_absent_31 f0_queueEnd_32 am191_35 am192_38 am193_41 am194_44 am195_47 am196_50 am197_53 am198_56 h => (cb_eq (F := fun z => post z _) (hm_and (hm_ushr rfl rfl) hm_1) (h_post _ _ _ _ _ _ _ _ _ _ _ h))))) hm_0)) (fun h => (cb_eq (F := fun z => post z _) hm_m1 (h_post _ _ _ _ _ _ _ _ _ _ _ h))))))
def bd_X_partOf_17 (post : Nat → Bool) (J7 : Nat → Nat → Bool) (x2 : Nat) (x4 : Nat) (f0_absent : Nat) (f0_queueEnd : Nat) (a1 : Nat) (a2 : Nat) (a3 : Nat) (a4 : Nat) (a5 : Nat) (a6 : Nat) (a7 : Nat) (a8 : Nat) : Nat → Nat → Nat → Bool
  | 0 => fun _ _ => false
  | n + 1 => fun x3 x5 => (cond (bd_le 10 x5) ((fun x4_4 : Nat => (J7 x3 x4_4)) (Nat.add x4 1)) (cond (bd_eq (Nat.land (Nat.shiftRight (Nat.mod x3 4294967296) (Nat.mod x5 32)) 1) 0) ((fun x3_6 : Nat => ((fun x5_7 : Nat => (bd_X_partOf_17 post J7 x2 x4 f0_absent f0_queueEnd a1 a2 a3 a4 a5 a6 a7 a8 n x3_6 x5_7)) (Nat.add x5 1))) (Nat.lor x3 0)) (cond (bd_in x5) ((fun x3_9 : Nat => ((fun x5_10 : Nat => (bd_X_partOf_17 post J7 x2 x4 f0_absent f0_queueEnd a1 a2 a3 a4 a5 a6 a7 a8 n x3_9 x5_10)) (Nat.add x5 1))) (Nat.lor x3 (Nat.land (bd_gt a1 (bd_cl x5)) x2))) false)))
theorem sd_X_partOf_17 {post : Int32 → Prop} {q_post : Nat → Bool} {J7 : Int32 → Int32 → Prop} {q_J7 : Nat → Nat → Bool} {x2 : Nat} {x4 : Nat} {f0_absent : Nat} {f0_queueEnd : Nat} {a1 : Nat} {a2 : Nat} {a3 : Nat} {a4 : Nat} {a5 : Nat} {a6 : Nat} {a7 : Nat} {a8 : Nat} (h_post : ∀ v0 : Nat, q_post v0 = true → post (nI v0)) (h_J7 : ∀ v0 v1 : Nat, q_J7 v0 v1 = true → J7 (nI v0) (nI v1)) : ∀ (n : Nat) (x3 x5 : Nat), bd_X_partOf_17 q_post q_J7 x2 x4 f0_absent f0_queueEnd a1 a2 a3 a4 a5 a6 a7 a8 n x3 x5 = true → wX_partOf_17 post J7 (nI x2) (nI x4) (nI f0_absent) (nI f0_queueEnd) (bd_ar a1) (bd_ar a2) (bd_ar a3) (bd_ar a4) (bd_ar a5) (bd_ar a6) (bd_ar a7) (bd_ar a8) n (nI x3) (nI x5) := by
  intro n
  induction n with
  | zero => intro x3 x5 h; exact absurd h Bool.false_ne_true
  | succ n ih =>
    intro x3 x5 h
    unfold bd_X_partOf_17 at h
    exact (cb_br h (hm_le hm_10 rfl) (fun h => (nm_r (hm_add rfl hm_1) (h_J7 _ _ h))) (fun h => (cb_br h (hm_eq (hm_and (hm_ushr rfl rfl) hm_1) hm_0) (fun h => (nm_r (hm_or rfl hm_0) (nm_r (hm_add rfl hm_1) (ih _ _ h)))) (fun h => (cb_in h rfl (fun h => (nm_r (hm_or rfl (hm_and (hm_get rfl rfl) rfl)) (nm_r (hm_add rfl hm_1) (ih _ _ h)))))))))
def bd_X_partOf_7 (post : Nat → Bool) (x2 : Nat) (f0_absent : Nat) (f0_queueEnd : Nat) (a1 : Nat) (a2 : Nat) (a3 : Nat) (a4 : Nat) (a5 : Nat) (a6 : Nat) (a7 : Nat) (a8 : Nat) : Nat → Nat → Nat → Bool
  | 0 => fun _ _ => false
  | n + 1 => fun x3 x4 => (cond (bd_le 10 x4) (post x3) (bd_X_partOf_17 post (bd_X_partOf_7 post x2 f0_absent f0_queueEnd a1 a2 a3 a4 a5 a6 a7 a8 n) x2 x4 f0_absent f0_queueEnd a1 a2 a3 a4 a5 a6 a7 a8 12 x3 0))
theorem sd_X_partOf_7 {post : Int32 → Prop} {q_post : Nat → Bool} {x2 : Nat} {f0_absent : Nat} {f0_queueEnd : Nat} {a1 : Nat} {a2 : Nat} {a3 : Nat} {a4 : Nat} {a5 : Nat} {a6 : Nat} {a7 : Nat} {a8 : Nat} (h_post : ∀ v0 : Nat, q_post v0 = true → post (nI v0)) : ∀ (n : Nat) (x3 x4 : Nat), bd_X_partOf_7 q_post x2 f0_absent f0_queueEnd a1 a2 a3 a4 a5 a6 a7 a8 n x3 x4 = true → wX_partOf_7 post (nI x2) (nI f0_absent) (nI f0_queueEnd) (bd_ar a1) (bd_ar a2) (bd_ar a3) (bd_ar a4) (bd_ar a5) (bd_ar a6) (bd_ar a7) (bd_ar a8) n (nI x3) (nI x4) := by
  intro n
  induction n with
  | zero => intro x3 x4 h; exact absurd h Bool.false_ne_true
  | succ n ih =>
    intro x3 x4 h
    unfold bd_X_partOf_7 at h
    exact (cb_br h (hm_le hm_10 rfl) (fun h => (h_post _ h)) (fun h => (Exists.intro 12 (sd_X_partOf_17 h_post ih 12 _ _ h))))
def bd_pX_partOf (post : Nat → Bool) (f0_absent : Nat) (f0_queueEnd : Nat) (a1 : Nat) (a2 : Nat) (a3 : Nat) (a4 : Nat) (a5 : Nat) (a6 : Nat) (a7 : Nat) (a8 : Nat) (p0 : Nat) (p1 : Nat) : Bool := ((fun x3_1 : Nat => (bd_X_partOf_7 post p1 f0_absent f0_queueEnd a1 a2 a3 a4 a5 a6 a7 a8 12 x3_1 0)) (Nat.shiftLeft 1 (Nat.mod p0 32)))
theorem sd_pX_partOf {post : Int32 → Prop} {q_post : Nat → Bool} {f0_absent f0_queueEnd a1 a2 a3 a4 a5 a6 a7 a8 : Nat} {w_p0 : Int32} {p0 : Nat} {w_p1 : Int32} {p1 : Nat} (h : bd_pX_partOf q_post f0_absent f0_queueEnd a1 a2 a3 a4 a5 a6 a7 a8 p0 p1 = true) (h_post : ∀ v0 : Nat, q_post v0 = true → post (nI v0)) (e_p0 : w_p0 = nI p0) (e_p1 : w_p1 = nI p1) : wpX_partOf post ((nI f0_absent), (nI f0_queueEnd), (bd_ar a1), (bd_ar a2), (bd_ar a3), (bd_ar a4), (bd_ar a5), (bd_ar a6), (bd_ar a7), (bd_ar a8)) w_p0 w_p1 := by
  subst e_p0
  subst e_p1
  unfold wpX_partOf
  unfold bd_pX_partOf at h
  exact (nm_r (hm_shl hm_1 rfl) (Exists.intro 12 (sd_X_partOf_7 h_post 12 _ _ h)))
def bd_X_parts_15 (post : Nat → Nat → Nat → Nat → Nat → Nat → Nat → Nat → Nat → Nat → Nat → Bool) (f0_absent : Nat) (f0_queueEnd : Nat) (am41 : Nat) (am42 : Nat) (am43 : Nat) (am44 : Nat) (am45 : Nat) (am46 : Nat) (am47 : Nat) (am48 : Nat) : Nat → Nat → Nat → Nat → Bool
  | 0 => fun _ _ _ => false
  | n + 1 => fun x1 x2 x3 => (cond (bd_le 10 x3) (post x2 f0_absent f0_queueEnd am41 am42 am43 am44 am45 am46 am47 am48) (cond (bd_eq (Nat.land (Nat.shiftRight (Nat.mod x1 4294967296) (Nat.mod x3 32)) 1) 0) ((fun x3_31 : Nat => (bd_X_parts_15 post f0_absent f0_queueEnd am41 am42 am43 am44 am45 am46 am47 am48 n x1 x2 x3_31)) (Nat.add x3 1)) ((fun x2_32 : Nat => (bd_pX_partOf (fun r_33 => ((fun x1_34 : Nat => ((fun x3_35 : Nat => (bd_X_parts_15 post f0_absent f0_queueEnd am41 am42 am43 am44 am45 am46 am47 am48 n x1_34 x2_32 x3_35)) (Nat.add x3 1))) (Nat.land x1 (Nat.xor r_33 4294967295)))) f0_absent f0_queueEnd am41 am42 am43 am44 am45 am46 am47 am48 x3 x1)) (Nat.add x2 1))))
theorem sd_X_parts_15 {post : Int32 → St2 → Prop} {q_post : Nat → Nat → Nat → Nat → Nat → Nat → Nat → Nat → Nat → Nat → Nat → Bool} {f0_absent : Nat} {f0_queueEnd : Nat} {am41 : Nat} {am42 : Nat} {am43 : Nat} {am44 : Nat} {am45 : Nat} {am46 : Nat} {am47 : Nat} {am48 : Nat} (h_post : ∀ v0 v1 v2 v3 v4 v5 v6 v7 v8 v9 v10 : Nat, q_post v0 v1 v2 v3 v4 v5 v6 v7 v8 v9 v10 = true → post (nI v0) ((nI v1), (nI v2), (bd_ar v3), (bd_ar v4), (bd_ar v5), (bd_ar v6), (bd_ar v7), (bd_ar v8), (bd_ar v9), (bd_ar v10))) : ∀ (n : Nat) (x1 x2 x3 : Nat), bd_X_parts_15 q_post f0_absent f0_queueEnd am41 am42 am43 am44 am45 am46 am47 am48 n x1 x2 x3 = true → wX_parts_15 post (nI f0_absent) (nI f0_queueEnd) (bd_ar am41) (bd_ar am42) (bd_ar am43) (bd_ar am44) (bd_ar am45) (bd_ar am46) (bd_ar am47) (bd_ar am48) n (nI x1) (nI x2) (nI x3) := by
  intro n
  induction n with
  | zero => intro x1 x2 x3 h; exact absurd h Bool.false_ne_true
  | succ n ih =>
    intro x1 x2 x3 h
    unfold bd_X_parts_15 at h
    exact (cb_br h (hm_le hm_10 rfl) (fun h => (h_post _ _ _ _ _ _ _ _ _ _ _ h)) (fun h => (cb_br h (hm_eq (hm_and (hm_ushr rfl rfl) hm_1) hm_0) (fun h => (nm_r (hm_add rfl hm_1) (ih _ _ _ h))) (fun h => (nm_r (hm_add rfl hm_1) (sd_pX_partOf h (fun r_33 h => (nm_r (hm_and rfl (hm_xor rfl hm_m1)) (nm_r (hm_add rfl hm_1) (ih _ _ _ h)))) rfl rfl))))))
def bd_pX_parts (post : Nat → Nat → Nat → Nat → Nat → Nat → Nat → Nat → Nat → Nat → Nat → Bool) (f0_absent : Nat) (f0_queueEnd : Nat) (a1 : Nat) (a2 : Nat) (a3 : Nat) (a4 : Nat) (a5 : Nat) (a6 : Nat) (a7 : Nat) (a8 : Nat) : Bool := (bd_pX_guards (fun r_1 f0_absent_2 f0_queueEnd_3 am41_6 am42_9 am43_12 am44_15 am45_18 am46_21 am47_24 am48_27 => ((fun x1_28 : Nat => (bd_X_parts_15 post f0_absent_2 f0_queueEnd_3 am41_6 am42_9 am43_12 am44_15 am45_18 am46_21 am47_24 am48_27 12 x1_28 0 0)) (Nat.land 1023 (Nat.xor r_1 4294967295)))) f0_absent f0_queueEnd a1 a2 a3 a4 a5 a6 a7 a8)
theorem sd_pX_parts {post : Int32 → St2 → Prop} {q_post : Nat → Nat → Nat → Nat → Nat → Nat → Nat → Nat → Nat → Nat → Nat → Bool} {f0_absent f0_queueEnd a1 a2 a3 a4 a5 a6 a7 a8 : Nat} (h : bd_pX_parts q_post f0_absent f0_queueEnd a1 a2 a3 a4 a5 a6 a7 a8 = true) (h_post : ∀ v0 v1 v2 v3 v4 v5 v6 v7 v8 v9 v10 : Nat, q_post v0 v1 v2 v3 v4 v5 v6 v7 v8 v9 v10 = true → post (nI v0) ((nI v1), (nI v2), (bd_ar v3), (bd_ar v4), (bd_ar v5), (bd_ar v6), (bd_ar v7), (bd_ar v8), (bd_ar v9), (bd_ar v10))) : wpX_parts post ((nI f0_absent), (nI f0_queueEnd), (bd_ar a1), (bd_ar a2), (bd_ar a3), (bd_ar a4), (bd_ar a5), (bd_ar a6), (bd_ar a7), (bd_ar a8)) := by
  unfold wpX_parts
  unfold bd_pX_parts at h
  exact (sd_pX_guards h (fun r_1 f0_absent_2 f0_queueEnd_3 am41_6 am42_9 am43_12 am44_15 am45_18 am46_21 am47_24 am48_27 h => (nm_r (hm_and hm_1023 (hm_xor rfl hm_m1)) (Exists.intro 12 (sd_X_parts_15 h_post 12 _ _ _ h)))))
def bd_pX_isPair (post : Nat → Bool) (p0 : Nat) (p1 : Nat) : Bool := (cond (bd_lt p0 0) (post 0) (cond (bd_lt 9 p0) (post 0) (cond (bd_lt p1 0) (post 0) (cond (bd_lt 9 p1) (post 0) (cond (bd_eq p0 p1) (post 0) (post 1))))))
theorem sd_pX_isPair {post : Int32 → Prop} {q_post : Nat → Bool} {w_p0 : Int32} {p0 : Nat} {w_p1 : Int32} {p1 : Nat} (h : bd_pX_isPair q_post p0 p1 = true) (h_post : ∀ v0 : Nat, q_post v0 = true → post (nI v0)) (e_p0 : w_p0 = nI p0) (e_p1 : w_p1 = nI p1) : wpX_isPair post () w_p0 w_p1 := by
  subst e_p0
  subst e_p1
  unfold wpX_isPair
  unfold bd_pX_isPair at h
  exact (cb_br h (hm_lt rfl hm_0) (fun h => (cb_eq (F := fun z => post z) hm_0 (h_post _ h))) (fun h => (cb_br h (hm_lt hm_9 rfl) (fun h => (cb_eq (F := fun z => post z) hm_0 (h_post _ h))) (fun h => (cb_br h (hm_lt rfl hm_0) (fun h => (cb_eq (F := fun z => post z) hm_0 (h_post _ h))) (fun h => (cb_br h (hm_lt hm_9 rfl) (fun h => (cb_eq (F := fun z => post z) hm_0 (h_post _ h))) (fun h => (cb_br h (hm_eq rfl rfl) (fun h => (cb_eq (F := fun z => post z) hm_0 (h_post _ h))) (fun h => (cb_eq (F := fun z => post z) hm_1 (h_post _ h))))))))))))
def bd_X_part_24 (post : Nat → Nat → Nat → Nat → Nat → Nat → Nat → Nat → Nat → Nat → Nat → Bool) (x1 : Nat) (x2 : Nat) (z0 : Nat) (f0_absent : Nat) (f0_queueEnd : Nat) (a1 : Nat) (a2 : Nat) (a3 : Nat) (a4 : Nat) (a5 : Nat) (a6 : Nat) (a7 : Nat) (a8 : Nat) : Bool := (cond (bd_in x1) (cond (bd_in x1) ((fun a1_7 : Nat => (cond (bd_in x2) (cond (bd_in x2) ((fun a1_10 : Nat => (post z0 f0_absent f0_queueEnd a1_10 a2 a3 a4 a5 a6 a7 a8)) (bd_st a1_7 (bd_cl x2) (Nat.land (bd_gt a1_7 (bd_cl x2)) (Nat.xor (Nat.shiftLeft 1 (Nat.mod x1 32)) 4294967295)))) false) false)) (bd_st a1 (bd_cl x1) (Nat.land (bd_gt a1 (bd_cl x1)) (Nat.xor (Nat.shiftLeft 1 (Nat.mod x2 32)) 4294967295)))) false) false)
theorem sd_X_part_24 {post : Int32 → St2 → Prop} {q_post : Nat → Nat → Nat → Nat → Nat → Nat → Nat → Nat → Nat → Nat → Nat → Bool} {w_x1 : Int32} {x1 : Nat} {w_x2 : Int32} {x2 : Nat} {w_z0 : Int32} {z0 : Nat} {f0_absent : Nat} {f0_queueEnd : Nat} {a1 : Nat} {a2 : Nat} {a3 : Nat} {a4 : Nat} {a5 : Nat} {a6 : Nat} {a7 : Nat} {a8 : Nat} (h : bd_X_part_24 q_post x1 x2 z0 f0_absent f0_queueEnd a1 a2 a3 a4 a5 a6 a7 a8 = true) (h_post : ∀ v0 v1 v2 v3 v4 v5 v6 v7 v8 v9 v10 : Nat, q_post v0 v1 v2 v3 v4 v5 v6 v7 v8 v9 v10 = true → post (nI v0) ((nI v1), (nI v2), (bd_ar v3), (bd_ar v4), (bd_ar v5), (bd_ar v6), (bd_ar v7), (bd_ar v8), (bd_ar v9), (bd_ar v10))) (e_x1 : w_x1 = nI x1) (e_x2 : w_x2 = nI x2) (e_z0 : w_z0 = nI z0) : wX_part_24 post w_x1 w_x2 w_z0 (nI f0_absent) (nI f0_queueEnd) (bd_ar a1) (bd_ar a2) (bd_ar a3) (bd_ar a4) (bd_ar a5) (bd_ar a6) (bd_ar a7) (bd_ar a8) := by
  subst e_x1
  subst e_x2
  subst e_z0
  unfold wX_part_24
  unfold bd_X_part_24 at h
  exact (cb_in h rfl (fun h => (cb_in h rfl (fun h => (nm_r (hm_upd rfl rfl (hm_and (hm_get rfl rfl) (hm_xor (hm_shl hm_1 rfl) hm_m1))) (cb_in h rfl (fun h => (cb_in h rfl (fun h => (nm_r (hm_upd rfl rfl (hm_and (hm_get rfl rfl) (hm_xor (hm_shl hm_1 rfl) hm_m1))) (h_post _ _ _ _ _ _ _ _ _ _ _ h)))))))))))
def bd_pX_part (post : Nat → Nat → Nat → Nat → Nat → Nat → Nat → Nat → Nat → Nat → Nat → Bool) (f0_absent : Nat) (f0_queueEnd : Nat) (a1 : Nat) (a2 : Nat) (a3 : Nat) (a4 : Nat) (a5 : Nat) (a6 : Nat) (a7 : Nat) (a8 : Nat) (p0 : Nat) (p1 : Nat) : Bool := (bd_pX_isPair (fun r_1 => (cond (bd_eq r_1 0) (post 4294967295 f0_absent f0_queueEnd a1 a2 a3 a4 a5 a6 a7 a8) (bd_pX_isLine (fun r_3 => (cond (bd_eq r_3 0) (bd_X_part_24 post p0 p1 0 f0_absent f0_queueEnd a1 a2 a3 a4 a5 a6 a7 a8) (bd_X_part_24 post p0 p1 1 f0_absent f0_queueEnd a1 a2 a3 a4 a5 a6 a7 a8))) f0_absent f0_queueEnd a1 a2 a3 a4 a5 a6 a7 a8 p0 p1))) p0 p1)
theorem sd_pX_part {post : Int32 → St2 → Prop} {q_post : Nat → Nat → Nat → Nat → Nat → Nat → Nat → Nat → Nat → Nat → Nat → Bool} {f0_absent f0_queueEnd a1 a2 a3 a4 a5 a6 a7 a8 : Nat} {w_p0 : Int32} {p0 : Nat} {w_p1 : Int32} {p1 : Nat} (h : bd_pX_part q_post f0_absent f0_queueEnd a1 a2 a3 a4 a5 a6 a7 a8 p0 p1 = true) (h_post : ∀ v0 v1 v2 v3 v4 v5 v6 v7 v8 v9 v10 : Nat, q_post v0 v1 v2 v3 v4 v5 v6 v7 v8 v9 v10 = true → post (nI v0) ((nI v1), (nI v2), (bd_ar v3), (bd_ar v4), (bd_ar v5), (bd_ar v6), (bd_ar v7), (bd_ar v8), (bd_ar v9), (bd_ar v10))) (e_p0 : w_p0 = nI p0) (e_p1 : w_p1 = nI p1) : wpX_part post ((nI f0_absent), (nI f0_queueEnd), (bd_ar a1), (bd_ar a2), (bd_ar a3), (bd_ar a4), (bd_ar a5), (bd_ar a6), (bd_ar a7), (bd_ar a8)) w_p0 w_p1 := by
  subst e_p0
  subst e_p1
  unfold wpX_part
  unfold bd_pX_part at h
  exact (sd_pX_isPair h (fun r_1 h => (cb_br h (hm_eq rfl hm_0) (fun h => (cb_eq (F := fun z => post z _) hm_m1 (h_post _ _ _ _ _ _ _ _ _ _ _ h))) (fun h => (sd_pX_isLine h (fun r_3 h => (cb_br h (hm_eq rfl hm_0) (fun h => (sd_X_part_24 h h_post rfl rfl hm_0)) (fun h => (sd_X_part_24 h h_post rfl rfl hm_1)))) rfl rfl)))) rfl rfl)
def bd_X_join_24 (post : Nat → Nat → Nat → Nat → Nat → Nat → Nat → Nat → Nat → Nat → Nat → Bool) (x1 : Nat) (x2 : Nat) (z0 : Nat) (f0_absent : Nat) (f0_queueEnd : Nat) (a1 : Nat) (a2 : Nat) (a3 : Nat) (a4 : Nat) (a5 : Nat) (a6 : Nat) (a7 : Nat) (a8 : Nat) : Bool := (cond (bd_in x1) (cond (bd_in x1) ((fun a1_7 : Nat => (cond (bd_in x2) (cond (bd_in x2) ((fun a1_10 : Nat => (post z0 f0_absent f0_queueEnd a1_10 a2 a3 a4 a5 a6 a7 a8)) (bd_st a1_7 (bd_cl x2) (Nat.lor (bd_gt a1_7 (bd_cl x2)) (Nat.shiftLeft 1 (Nat.mod x1 32))))) false) false)) (bd_st a1 (bd_cl x1) (Nat.lor (bd_gt a1 (bd_cl x1)) (Nat.shiftLeft 1 (Nat.mod x2 32))))) false) false)
theorem sd_X_join_24 {post : Int32 → St2 → Prop} {q_post : Nat → Nat → Nat → Nat → Nat → Nat → Nat → Nat → Nat → Nat → Nat → Bool} {w_x1 : Int32} {x1 : Nat} {w_x2 : Int32} {x2 : Nat} {w_z0 : Int32} {z0 : Nat} {f0_absent : Nat} {f0_queueEnd : Nat} {a1 : Nat} {a2 : Nat} {a3 : Nat} {a4 : Nat} {a5 : Nat} {a6 : Nat} {a7 : Nat} {a8 : Nat} (h : bd_X_join_24 q_post x1 x2 z0 f0_absent f0_queueEnd a1 a2 a3 a4 a5 a6 a7 a8 = true) (h_post : ∀ v0 v1 v2 v3 v4 v5 v6 v7 v8 v9 v10 : Nat, q_post v0 v1 v2 v3 v4 v5 v6 v7 v8 v9 v10 = true → post (nI v0) ((nI v1), (nI v2), (bd_ar v3), (bd_ar v4), (bd_ar v5), (bd_ar v6), (bd_ar v7), (bd_ar v8), (bd_ar v9), (bd_ar v10))) (e_x1 : w_x1 = nI x1) (e_x2 : w_x2 = nI x2) (e_z0 : w_z0 = nI z0) : wX_join_24 post w_x1 w_x2 w_z0 (nI f0_absent) (nI f0_queueEnd) (bd_ar a1) (bd_ar a2) (bd_ar a3) (bd_ar a4) (bd_ar a5) (bd_ar a6) (bd_ar a7) (bd_ar a8) := by
  subst e_x1
  subst e_x2
  subst e_z0
  unfold wX_join_24
  unfold bd_X_join_24 at h
  exact (cb_in h rfl (fun h => (cb_in h rfl (fun h => (nm_r (hm_upd rfl rfl (hm_or (hm_get rfl rfl) (hm_shl hm_1 rfl))) (cb_in h rfl (fun h => (cb_in h rfl (fun h => (nm_r (hm_upd rfl rfl (hm_or (hm_get rfl rfl) (hm_shl hm_1 rfl))) (h_post _ _ _ _ _ _ _ _ _ _ _ h)))))))))))
def bd_pX_join (post : Nat → Nat → Nat → Nat → Nat → Nat → Nat → Nat → Nat → Nat → Nat → Bool) (f0_absent : Nat) (f0_queueEnd : Nat) (a1 : Nat) (a2 : Nat) (a3 : Nat) (a4 : Nat) (a5 : Nat) (a6 : Nat) (a7 : Nat) (a8 : Nat) (p0 : Nat) (p1 : Nat) : Bool := (bd_pX_isPair (fun r_1 => (cond (bd_eq r_1 0) (post 4294967295 f0_absent f0_queueEnd a1 a2 a3 a4 a5 a6 a7 a8) (bd_pX_isLine (fun r_3 => (cond (bd_eq r_3 0) (bd_X_join_24 post p0 p1 1 f0_absent f0_queueEnd a1 a2 a3 a4 a5 a6 a7 a8) (bd_X_join_24 post p0 p1 0 f0_absent f0_queueEnd a1 a2 a3 a4 a5 a6 a7 a8))) f0_absent f0_queueEnd a1 a2 a3 a4 a5 a6 a7 a8 p0 p1))) p0 p1)
theorem sd_pX_join {post : Int32 → St2 → Prop} {q_post : Nat → Nat → Nat → Nat → Nat → Nat → Nat → Nat → Nat → Nat → Nat → Bool} {f0_absent f0_queueEnd a1 a2 a3 a4 a5 a6 a7 a8 : Nat} {w_p0 : Int32} {p0 : Nat} {w_p1 : Int32} {p1 : Nat} (h : bd_pX_join q_post f0_absent f0_queueEnd a1 a2 a3 a4 a5 a6 a7 a8 p0 p1 = true) (h_post : ∀ v0 v1 v2 v3 v4 v5 v6 v7 v8 v9 v10 : Nat, q_post v0 v1 v2 v3 v4 v5 v6 v7 v8 v9 v10 = true → post (nI v0) ((nI v1), (nI v2), (bd_ar v3), (bd_ar v4), (bd_ar v5), (bd_ar v6), (bd_ar v7), (bd_ar v8), (bd_ar v9), (bd_ar v10))) (e_p0 : w_p0 = nI p0) (e_p1 : w_p1 = nI p1) : wpX_join post ((nI f0_absent), (nI f0_queueEnd), (bd_ar a1), (bd_ar a2), (bd_ar a3), (bd_ar a4), (bd_ar a5), (bd_ar a6), (bd_ar a7), (bd_ar a8)) w_p0 w_p1 := by
  subst e_p0
  subst e_p1
  unfold wpX_join
  unfold bd_pX_join at h
  exact (sd_pX_isPair h (fun r_1 h => (cb_br h (hm_eq rfl hm_0) (fun h => (cb_eq (F := fun z => post z _) hm_m1 (h_post _ _ _ _ _ _ _ _ _ _ _ h))) (fun h => (sd_pX_isLine h (fun r_3 h => (cb_br h (hm_eq rfl hm_0) (fun h => (sd_X_join_24 h h_post rfl rfl hm_1)) (fun h => (sd_X_join_24 h h_post rfl rfl hm_0)))) rfl rfl)))) rfl rfl)
def bd_X_needed_44 (post : Nat → Nat → Nat → Nat → Nat → Nat → Nat → Nat → Nat → Nat → Nat → Bool) (x3 : Nat) (x5 : Nat) (f0_absent : Nat) (f0_queueEnd : Nat) (am261 : Nat) (am262 : Nat) (am263 : Nat) (am264 : Nat) (am265 : Nat) (am266 : Nat) (am267 : Nat) (am268 : Nat) : Bool := (cond (bd_le x3 x5) (post 0 f0_absent f0_queueEnd am261 am262 am263 am264 am265 am266 am267 am268) (post 1 f0_absent f0_queueEnd am261 am262 am263 am264 am265 am266 am267 am268))
theorem sd_X_needed_44 {post : Int32 → St2 → Prop} {q_post : Nat → Nat → Nat → Nat → Nat → Nat → Nat → Nat → Nat → Nat → Nat → Bool} {w_x3 : Int32} {x3 : Nat} {w_x5 : Int32} {x5 : Nat} {f0_absent : Nat} {f0_queueEnd : Nat} {am261 : Nat} {am262 : Nat} {am263 : Nat} {am264 : Nat} {am265 : Nat} {am266 : Nat} {am267 : Nat} {am268 : Nat} (h : bd_X_needed_44 q_post x3 x5 f0_absent f0_queueEnd am261 am262 am263 am264 am265 am266 am267 am268 = true) (h_post : ∀ v0 v1 v2 v3 v4 v5 v6 v7 v8 v9 v10 : Nat, q_post v0 v1 v2 v3 v4 v5 v6 v7 v8 v9 v10 = true → post (nI v0) ((nI v1), (nI v2), (bd_ar v3), (bd_ar v4), (bd_ar v5), (bd_ar v6), (bd_ar v7), (bd_ar v8), (bd_ar v9), (bd_ar v10))) (e_x3 : w_x3 = nI x3) (e_x5 : w_x5 = nI x5) : wX_needed_44 post w_x3 w_x5 (nI f0_absent) (nI f0_queueEnd) (bd_ar am261) (bd_ar am262) (bd_ar am263) (bd_ar am264) (bd_ar am265) (bd_ar am266) (bd_ar am267) (bd_ar am268) := by
  subst e_x3
  subst e_x5
  unfold wX_needed_44
  unfold bd_X_needed_44 at h
  exact (cb_br h (hm_le rfl rfl) (fun h => (cb_eq (F := fun z => post z _) hm_0 (h_post _ _ _ _ _ _ _ _ _ _ _ h))) (fun h => (cb_eq (F := fun z => post z _) hm_1 (h_post _ _ _ _ _ _ _ _ _ _ _ h))))
def bd_pX_needed (post : Nat → Nat → Nat → Nat → Nat → Nat → Nat → Nat → Nat → Nat → Nat → Bool) (f0_absent : Nat) (f0_queueEnd : Nat) (a1 : Nat) (a2 : Nat) (a3 : Nat) (a4 : Nat) (a5 : Nat) (a6 : Nat) (a7 : Nat) (a8 : Nat) (p0 : Nat) (p1 : Nat) : Bool := (bd_pX_isPair (fun r_1 => (cond (bd_eq r_1 0) (post 4294967295 f0_absent f0_queueEnd a1 a2 a3 a4 a5 a6 a7 a8) (bd_pX_pairWithout (fun r_3 f0_absent_4 f0_queueEnd_5 am121_8 am122_11 am123_14 am124_17 am125_20 am126_23 am127_26 am128_29 => (bd_pX_part (fun r_30 f0_absent_31 f0_queueEnd_32 am191_35 am192_38 am193_41 am194_44 am195_47 am196_50 am197_53 am198_56 => (bd_pX_pairWithout (fun r_57 f0_absent_58 f0_queueEnd_59 am261_62 am262_65 am263_68 am264_71 am265_74 am266_77 am267_80 am268_83 => (cond (bd_eq r_30 1) (bd_pX_join (fun r_86 f0_absent_87 f0_queueEnd_88 am401_91 am402_94 am403_97 am404_100 am405_103 am406_106 am407_109 am408_112 => (bd_X_needed_44 post r_3 r_57 f0_absent_87 f0_queueEnd_88 am401_91 am402_94 am403_97 am404_100 am405_103 am406_106 am407_109 am408_112)) f0_absent_58 f0_queueEnd_59 am261_62 am262_65 am263_68 am264_71 am265_74 am266_77 am267_80 am268_83 p0 p1) (bd_X_needed_44 post r_3 r_57 f0_absent_58 f0_queueEnd_59 am261_62 am262_65 am263_68 am264_71 am265_74 am266_77 am267_80 am268_83))) f0_absent_31 f0_queueEnd_32 am191_35 am192_38 am193_41 am194_44 am195_47 am196_50 am197_53 am198_56 0)) f0_absent_4 f0_queueEnd_5 am121_8 am122_11 am123_14 am124_17 am125_20 am126_23 am127_26 am128_29 p0 p1)) f0_absent f0_queueEnd a1 a2 a3 a4 a5 a6 a7 a8 0))) p0 p1)
theorem sd_pX_needed {post : Int32 → St2 → Prop} {q_post : Nat → Nat → Nat → Nat → Nat → Nat → Nat → Nat → Nat → Nat → Nat → Bool} {f0_absent f0_queueEnd a1 a2 a3 a4 a5 a6 a7 a8 : Nat} {w_p0 : Int32} {p0 : Nat} {w_p1 : Int32} {p1 : Nat} (h : bd_pX_needed q_post f0_absent f0_queueEnd a1 a2 a3 a4 a5 a6 a7 a8 p0 p1 = true) (h_post : ∀ v0 v1 v2 v3 v4 v5 v6 v7 v8 v9 v10 : Nat, q_post v0 v1 v2 v3 v4 v5 v6 v7 v8 v9 v10 = true → post (nI v0) ((nI v1), (nI v2), (bd_ar v3), (bd_ar v4), (bd_ar v5), (bd_ar v6), (bd_ar v7), (bd_ar v8), (bd_ar v9), (bd_ar v10))) (e_p0 : w_p0 = nI p0) (e_p1 : w_p1 = nI p1) : wpX_needed post ((nI f0_absent), (nI f0_queueEnd), (bd_ar a1), (bd_ar a2), (bd_ar a3), (bd_ar a4), (bd_ar a5), (bd_ar a6), (bd_ar a7), (bd_ar a8)) w_p0 w_p1 := by
  subst e_p0
  subst e_p1
  unfold wpX_needed
  unfold bd_pX_needed at h
  exact (sd_pX_isPair h (fun r_1 h => (cb_br h (hm_eq rfl hm_0) (fun h => (cb_eq (F := fun z => post z _) hm_m1 (h_post _ _ _ _ _ _ _ _ _ _ _ h))) (fun h => (sd_pX_pairWithout h (fun r_3 f0_absent_4 f0_queueEnd_5 am121_8 am122_11 am123_14 am124_17 am125_20 am126_23 am127_26 am128_29 h => (sd_pX_part h (fun r_30 f0_absent_31 f0_queueEnd_32 am191_35 am192_38 am193_41 am194_44 am195_47 am196_50 am197_53 am198_56 h => (sd_pX_pairWithout h (fun r_57 f0_absent_58 f0_queueEnd_59 am261_62 am262_65 am263_68 am264_71 am265_74 am266_77 am267_80 am268_83 h => (cb_br h (hm_eq rfl hm_1) (fun h => (sd_pX_join h (fun r_86 f0_absent_87 f0_queueEnd_88 am401_91 am402_94 am403_97 am404_100 am405_103 am406_106 am407_109 am408_112 h => (sd_X_needed_44 h h_post rfl rfl)) rfl rfl)) (fun h => (sd_X_needed_44 h h_post rfl rfl)))) hm_0)) rfl rfl)) hm_0)))) rfl rfl)
def bd_pX_usable (post : Nat → Nat → Nat → Nat → Nat → Nat → Nat → Nat → Nat → Nat → Nat → Bool) (f0_absent : Nat) (f0_queueEnd : Nat) (a1 : Nat) (a2 : Nat) (a3 : Nat) (a4 : Nat) (a5 : Nat) (a6 : Nat) (a7 : Nat) (a8 : Nat) (p0 : Nat) (p1 : Nat) : Bool := (bd_pX_isPair (fun r_1 => (cond (bd_eq r_1 0) (post 4294967295 f0_absent f0_queueEnd a1 a2 a3 a4 a5 a6 a7 a8) (bd_pX_pairWithout (fun r_3 f0_absent_4 f0_queueEnd_5 am121_8 am122_11 am123_14 am124_17 am125_20 am126_23 am127_26 am128_29 => (bd_pX_pairWithout (fun r_30 f0_absent_31 f0_queueEnd_32 am241_35 am242_38 am243_41 am244_44 am245_47 am246_50 am247_53 am248_56 => (bd_pX_isLine (fun r_57 => (cond (bd_eq r_57 0) (post 0 f0_absent_31 f0_queueEnd_32 am241_35 am242_38 am243_41 am244_44 am245_47 am246_50 am247_53 am248_56) (cond (bd_eq r_30 (bd_sb r_3 1)) (post 1 f0_absent_31 f0_queueEnd_32 am241_35 am242_38 am243_41 am244_44 am245_47 am246_50 am247_53 am248_56) (post 0 f0_absent_31 f0_queueEnd_32 am241_35 am242_38 am243_41 am244_44 am245_47 am246_50 am247_53 am248_56)))) f0_absent_31 f0_queueEnd_32 am241_35 am242_38 am243_41 am244_44 am245_47 am246_50 am247_53 am248_56 p0 p1)) f0_absent_4 f0_queueEnd_5 am121_8 am122_11 am123_14 am124_17 am125_20 am126_23 am127_26 am128_29 (Nat.lor (Nat.shiftLeft 1 (Nat.mod p0 32)) (Nat.shiftLeft 1 (Nat.mod p1 32))))) f0_absent f0_queueEnd a1 a2 a3 a4 a5 a6 a7 a8 0))) p0 p1)
theorem sd_pX_usable {post : Int32 → St2 → Prop} {q_post : Nat → Nat → Nat → Nat → Nat → Nat → Nat → Nat → Nat → Nat → Nat → Bool} {f0_absent f0_queueEnd a1 a2 a3 a4 a5 a6 a7 a8 : Nat} {w_p0 : Int32} {p0 : Nat} {w_p1 : Int32} {p1 : Nat} (h : bd_pX_usable q_post f0_absent f0_queueEnd a1 a2 a3 a4 a5 a6 a7 a8 p0 p1 = true) (h_post : ∀ v0 v1 v2 v3 v4 v5 v6 v7 v8 v9 v10 : Nat, q_post v0 v1 v2 v3 v4 v5 v6 v7 v8 v9 v10 = true → post (nI v0) ((nI v1), (nI v2), (bd_ar v3), (bd_ar v4), (bd_ar v5), (bd_ar v6), (bd_ar v7), (bd_ar v8), (bd_ar v9), (bd_ar v10))) (e_p0 : w_p0 = nI p0) (e_p1 : w_p1 = nI p1) : wpX_usable post ((nI f0_absent), (nI f0_queueEnd), (bd_ar a1), (bd_ar a2), (bd_ar a3), (bd_ar a4), (bd_ar a5), (bd_ar a6), (bd_ar a7), (bd_ar a8)) w_p0 w_p1 := by
  subst e_p0
  subst e_p1
  unfold wpX_usable
  unfold bd_pX_usable at h
  exact (sd_pX_isPair h (fun r_1 h => (cb_br h (hm_eq rfl hm_0) (fun h => (cb_eq (F := fun z => post z _) hm_m1 (h_post _ _ _ _ _ _ _ _ _ _ _ h))) (fun h => (sd_pX_pairWithout h (fun r_3 f0_absent_4 f0_queueEnd_5 am121_8 am122_11 am123_14 am124_17 am125_20 am126_23 am127_26 am128_29 h => (sd_pX_pairWithout h (fun r_30 f0_absent_31 f0_queueEnd_32 am241_35 am242_38 am243_41 am244_44 am245_47 am246_50 am247_53 am248_56 h => (sd_pX_isLine h (fun r_57 h => (cb_br h (hm_eq rfl hm_0) (fun h => (cb_eq (F := fun z => post z _) hm_0 (h_post _ _ _ _ _ _ _ _ _ _ _ h))) (fun h => (cb_br h (hm_eq rfl (hm_sub rfl hm_1)) (fun h => (cb_eq (F := fun z => post z _) hm_1 (h_post _ _ _ _ _ _ _ _ _ _ _ h))) (fun h => (cb_eq (F := fun z => post z _) hm_0 (h_post _ _ _ _ _ _ _ _ _ _ _ h))))))) rfl rfl)) (hm_or (hm_shl hm_1 rfl) (hm_shl hm_1 rfl)))) hm_0)))) rfl rfl)
def bd_pX_mostWithout (post : Nat → Nat → Nat → Nat → Nat → Nat → Nat → Nat → Nat → Nat → Nat → Bool) (f0_absent : Nat) (f0_queueEnd : Nat) (a1 : Nat) (a2 : Nat) (a3 : Nat) (a4 : Nat) (a5 : Nat) (a6 : Nat) (a7 : Nat) (a8 : Nat) (p0 : Nat) : Bool := (bd_pX_pairWithout (fun r_1 f0_absent_2 f0_queueEnd_3 am61_6 am62_9 am63_12 am64_15 am65_18 am66_21 am67_24 am68_27 => (post r_1 f0_absent_2 f0_queueEnd_3 am61_6 am62_9 am63_12 am64_15 am65_18 am66_21 am67_24 am68_27)) f0_absent f0_queueEnd a1 a2 a3 a4 a5 a6 a7 a8 (Nat.land p0 1023))
theorem sd_pX_mostWithout {post : Int32 → St2 → Prop} {q_post : Nat → Nat → Nat → Nat → Nat → Nat → Nat → Nat → Nat → Nat → Nat → Bool} {f0_absent f0_queueEnd a1 a2 a3 a4 a5 a6 a7 a8 : Nat} {w_p0 : Int32} {p0 : Nat} (h : bd_pX_mostWithout q_post f0_absent f0_queueEnd a1 a2 a3 a4 a5 a6 a7 a8 p0 = true) (h_post : ∀ v0 v1 v2 v3 v4 v5 v6 v7 v8 v9 v10 : Nat, q_post v0 v1 v2 v3 v4 v5 v6 v7 v8 v9 v10 = true → post (nI v0) ((nI v1), (nI v2), (bd_ar v3), (bd_ar v4), (bd_ar v5), (bd_ar v6), (bd_ar v7), (bd_ar v8), (bd_ar v9), (bd_ar v10))) (e_p0 : w_p0 = nI p0) : wpX_mostWithout post ((nI f0_absent), (nI f0_queueEnd), (bd_ar a1), (bd_ar a2), (bd_ar a3), (bd_ar a4), (bd_ar a5), (bd_ar a6), (bd_ar a7), (bd_ar a8)) w_p0 := by
  subst e_p0
  unfold wpX_mostWithout
  unfold bd_pX_mostWithout at h
  exact (sd_pX_pairWithout h (fun r_1 f0_absent_2 f0_queueEnd_3 am61_6 am62_9 am63_12 am64_15 am65_18 am66_21 am67_24 am68_27 h => (h_post _ _ _ _ _ _ _ _ _ _ _ h)) (hm_and rfl hm_1023))
end
section
def bd_L_lawOf_320 (post : Nat → Bool) (x4 : Nat) (z0 : Nat) (z1 : Nat) (fm0_absent : Nat) (fm0_queueEnd : Nat) (am3071 : Nat) (am3072 : Nat) (am3073 : Nat) (am3074 : Nat) (am3075 : Nat) (am3076 : Nat) (am3077 : Nat) (am3078 : Nat) : Bool := (cond (bd_eq z1 z0) (bd_pX_parts (fun r_299 fm0_absent_300 fm0_queueEnd_301 am3241_304 am3242_307 am3243_310 am3244_313 am3245_316 am3246_319 am3247_322 am3248_325 => (cond (bd_eq r_299 (bd_sb 11 x4)) (post 1) (post 0))) fm0_absent fm0_queueEnd am3071 am3072 am3073 am3074 am3075 am3076 am3077 am3078) (post 0))
theorem sd_L_lawOf_320 {post : Int32 → St0 → Prop} {q_post : Nat → Bool} {mc : Nat} {ms : Nat} {w_x4 : Int32} {x4 : Nat} {w_z0 : Int32} {z0 : Nat} {w_z1 : Int32} {z1 : Nat} {kc : Nat} {ks : Nat} {fm0_absent : Nat} {fm0_queueEnd : Nat} {am3071 : Nat} {am3072 : Nat} {am3073 : Nat} {am3074 : Nat} {am3075 : Nat} {am3076 : Nat} {am3077 : Nat} {am3078 : Nat} (h : bd_L_lawOf_320 q_post x4 z0 z1 fm0_absent fm0_queueEnd am3071 am3072 am3073 am3074 am3075 am3076 am3077 am3078 = true) (h_post : ∀ v0 : Nat, q_post v0 = true → post (nI v0) ()) (e_x4 : w_x4 = nI x4) (e_z0 : w_z0 = nI z0) (e_z1 : w_z1 = nI z1) : wL_lawOf_320 post mc ms w_x4 w_z0 w_z1 kc ks (nI fm0_absent) (nI fm0_queueEnd) (bd_ar am3071) (bd_ar am3072) (bd_ar am3073) (bd_ar am3074) (bd_ar am3075) (bd_ar am3076) (bd_ar am3077) (bd_ar am3078) := by
  subst e_x4
  subst e_z0
  subst e_z1
  unfold wL_lawOf_320
  unfold bd_L_lawOf_320 at h
  exact (cb_br h (hm_eq rfl rfl) (fun h => (sd_pX_parts h (fun r_299 fm0_absent_300 fm0_queueEnd_301 am3241_304 am3242_307 am3243_310 am3244_313 am3245_316 am3246_319 am3247_322 am3248_325 h => (cb_br h (hm_eq rfl (hm_sub hm_11 rfl)) (fun h => (cb_eq (F := fun z => post z _) hm_1 (h_post _ h))) (fun h => (cb_eq (F := fun z => post z _) hm_0 (h_post _ h))))))) (fun h => (cb_eq (F := fun z => post z _) hm_0 (h_post _ h))))
def bd_L_lawOf_265 (post : Nat → Bool) (z0 : Nat) (z1 : Nat) : Bool := (cond (bd_eq z1 z0) (post 1) (post 0))
theorem sd_L_lawOf_265 {post : Int32 → St0 → Prop} {q_post : Nat → Bool} {mc : Nat} {ms : Nat} {w_z0 : Int32} {z0 : Nat} {w_z1 : Int32} {z1 : Nat} {kc : Nat} {ks : Nat} (h : bd_L_lawOf_265 q_post z0 z1 = true) (h_post : ∀ v0 : Nat, q_post v0 = true → post (nI v0) ()) (e_z0 : w_z0 = nI z0) (e_z1 : w_z1 = nI z1) : wL_lawOf_265 post mc ms w_z0 w_z1 kc ks := by
  subst e_z0
  subst e_z1
  unfold wL_lawOf_265
  unfold bd_L_lawOf_265 at h
  exact (cb_br h (hm_eq rfl rfl) (fun h => (cb_eq (F := fun z => post z _) hm_1 (h_post _ h))) (fun h => (cb_eq (F := fun z => post z _) hm_0 (h_post _ h))))
def bd_L_lawOf_259 (post : Nat → Bool) (x4 : Nat) (z0 : Nat) : Bool := (bd_L_lawOf_265 post (bd_sb (bd_dv x4) 1) z0)
theorem sd_L_lawOf_259 {post : Int32 → St0 → Prop} {q_post : Nat → Bool} {mc : Nat} {ms : Nat} {w_x4 : Int32} {x4 : Nat} {w_z0 : Int32} {z0 : Nat} {kc : Nat} {ks : Nat} (h : bd_L_lawOf_259 q_post x4 z0 = true) (h_post : ∀ v0 : Nat, q_post v0 = true → post (nI v0) ()) (e_x4 : w_x4 = nI x4) (e_z0 : w_z0 = nI z0) : wL_lawOf_259 post mc ms w_x4 w_z0 kc ks := by
  subst e_x4
  subst e_z0
  unfold wL_lawOf_259
  unfold bd_L_lawOf_259 at h
  exact (And.intro hm_20 (sd_L_lawOf_265 h h_post (hm_sub (hm_div rfl) hm_1) rfl))
def bd_L_lawOf_211 (post : Nat → Bool) (y_x1 : Nat) (y_x2 : Nat) (x4 : Nat) (x5 : Nat) (z0 : Nat) (z1 : Nat) (fm0_absent : Nat) (fm0_queueEnd : Nat) (am1981 : Nat) (am1982 : Nat) (am1983 : Nat) (am1984 : Nat) (am1985 : Nat) (am1986 : Nat) (am1987 : Nat) (am1988 : Nat) : Bool := (cond (bd_eq z1 z0) (cond (bd_eq y_x2 0) (bd_pX_usable (fun r_327 fm0_absent_328 fm0_queueEnd_329 am2251_332 am2252_335 am2253_338 am2254_341 am2255_344 am2256_347 am2257_350 am2258_353 => (cond (bd_eq r_327 1) (bd_pX_mostWithout (fun r_355 fm0_absent_356 fm0_queueEnd_357 am2381_360 am2382_363 am2383_366 am2384_369 am2385_372 am2386_375 am2387_378 am2388_381 => (cond (bd_eq x5 0) (bd_L_lawOf_259 post x4 r_355) (cond (bd_eq y_x1 0) (bd_L_lawOf_265 post (bd_dv x4) r_355) (bd_L_lawOf_259 post x4 r_355)))) fm0_absent_328 fm0_queueEnd_329 am2251_332 am2252_335 am2253_338 am2254_341 am2255_344 am2256_347 am2257_350 am2258_353 (Nat.shiftLeft 1 (Nat.mod y_x1 32))) (post 0))) fm0_absent fm0_queueEnd am1981 am1982 am1983 am1984 am1985 am1986 am1987 am1988 0 1) (bd_pX_join (fun r_185 fm0_absent_186 fm0_queueEnd_187 am2801_190 am2802_193 am2803_196 am2804_199 am2805_202 am2806_205 am2807_208 am2808_211 => (cond (bd_eq r_185 1) (bd_pX_most (fun r_213 fm0_absent_214 fm0_queueEnd_215 am2881_218 am2882_221 am2883_224 am2884_227 am2885_230 am2886_233 am2887_236 am2888_239 => (cond (bd_eq r_213 (bd_dv x4)) (bd_pX_guards (fun r_242 fm0_absent_243 fm0_queueEnd_244 am2991_247 am2992_250 am2993_253 am2994_256 am2995_259 am2996_262 am2997_265 am2998_268 => (cond (bd_eq r_242 0) (bd_pX_spare (fun r_270 fm0_absent_271 fm0_queueEnd_272 am3071_275 am3072_278 am3073_281 am3074_284 am3075_287 am3076_290 am3077_293 am3078_296 => (cond (bd_eq x5 0) (bd_L_lawOf_320 post x4 0 r_270 fm0_absent_271 fm0_queueEnd_272 am3071_275 am3072_278 am3073_281 am3074_284 am3075_287 am3076_290 am3077_293 am3078_296) (bd_L_lawOf_320 post x4 1 r_270 fm0_absent_271 fm0_queueEnd_272 am3071_275 am3072_278 am3073_281 am3074_284 am3075_287 am3076_290 am3077_293 am3078_296))) fm0_absent_243 fm0_queueEnd_244 am2991_247 am2992_250 am2993_253 am2994_256 am2995_259 am2996_262 am2997_265 am2998_268 1) (post 0))) fm0_absent_214 fm0_queueEnd_215 am2881_218 am2882_221 am2883_224 am2884_227 am2885_230 am2886_233 am2887_236 am2888_239) (post 0))) fm0_absent_186 fm0_queueEnd_187 am2801_190 am2802_193 am2803_196 am2804_199 am2805_202 am2806_205 am2807_208 am2808_211) (post 0))) fm0_absent fm0_queueEnd am1981 am1982 am1983 am1984 am1985 am1986 am1987 am1988 0 (bd_sb x4 1))) (post 0))
theorem sd_L_lawOf_211 {post : Int32 → St0 → Prop} {q_post : Nat → Bool} {mc : Nat} {ms : Nat} {x1 : Int32} {y_x1 : Nat} {x2 : Int32} {y_x2 : Nat} {w_x4 : Int32} {x4 : Nat} {w_x5 : Int32} {x5 : Nat} {w_z0 : Int32} {z0 : Nat} {w_z1 : Int32} {z1 : Nat} {kc : Nat} {ks : Nat} {fm0_absent : Nat} {fm0_queueEnd : Nat} {am1981 : Nat} {am1982 : Nat} {am1983 : Nat} {am1984 : Nat} {am1985 : Nat} {am1986 : Nat} {am1987 : Nat} {am1988 : Nat} (h : bd_L_lawOf_211 q_post y_x1 y_x2 x4 x5 z0 z1 fm0_absent fm0_queueEnd am1981 am1982 am1983 am1984 am1985 am1986 am1987 am1988 = true) (h_post : ∀ v0 : Nat, q_post v0 = true → post (nI v0) ()) (e_x1 : x1 &&& 1 = nI y_x1) (e_x2 : x2 &&& 1 = nI y_x2) (e_x4 : w_x4 = nI x4) (e_x5 : w_x5 = nI x5) (e_z0 : w_z0 = nI z0) (e_z1 : w_z1 = nI z1) : wL_lawOf_211 post mc ms x1 x2 w_x4 w_x5 w_z0 w_z1 kc ks (nI fm0_absent) (nI fm0_queueEnd) (bd_ar am1981) (bd_ar am1982) (bd_ar am1983) (bd_ar am1984) (bd_ar am1985) (bd_ar am1986) (bd_ar am1987) (bd_ar am1988) := by
  subst e_x4
  subst e_x5
  subst e_z0
  subst e_z1
  unfold wL_lawOf_211
  unfold bd_L_lawOf_211 at h
  exact (cb_br h (hm_eq rfl rfl) (fun h => (cb_br h (hm_eq e_x2 hm_0) (fun h => (sd_pX_usable h (fun r_327 fm0_absent_328 fm0_queueEnd_329 am2251_332 am2252_335 am2253_338 am2254_341 am2255_344 am2256_347 am2257_350 am2258_353 h => (cb_br h (hm_eq rfl hm_1) (fun h => (sd_pX_mostWithout h (fun r_355 fm0_absent_356 fm0_queueEnd_357 am2381_360 am2382_363 am2383_366 am2384_369 am2385_372 am2386_375 am2387_378 am2388_381 h => (cb_br h (hm_eq rfl hm_0) (fun h => (sd_L_lawOf_259 h h_post rfl rfl)) (fun h => (cb_br h (hm_eq e_x1 hm_0) (fun h => (And.intro hm_20 (sd_L_lawOf_265 h h_post (hm_div rfl) rfl))) (fun h => (sd_L_lawOf_259 h h_post rfl rfl)))))) (hm_shl hm_1 e_x1))) (fun h => (cb_eq (F := fun z => post z _) hm_0 (h_post _ h))))) hm_0 hm_1)) (fun h => (sd_pX_join h (fun r_185 fm0_absent_186 fm0_queueEnd_187 am2801_190 am2802_193 am2803_196 am2804_199 am2805_202 am2806_205 am2807_208 am2808_211 h => (cb_br h (hm_eq rfl hm_1) (fun h => (sd_pX_most h (fun r_213 fm0_absent_214 fm0_queueEnd_215 am2881_218 am2882_221 am2883_224 am2884_227 am2885_230 am2886_233 am2887_236 am2888_239 h => (And.intro hm_20 (cb_br h (hm_eq rfl (hm_div rfl)) (fun h => (sd_pX_guards h (fun r_242 fm0_absent_243 fm0_queueEnd_244 am2991_247 am2992_250 am2993_253 am2994_256 am2995_259 am2996_262 am2997_265 am2998_268 h => (cb_br h (hm_eq rfl hm_0) (fun h => (sd_pX_spare h (fun r_270 fm0_absent_271 fm0_queueEnd_272 am3071_275 am3072_278 am3073_281 am3074_284 am3075_287 am3076_290 am3077_293 am3078_296 h => (cb_br h (hm_eq rfl hm_0) (fun h => (sd_L_lawOf_320 h h_post rfl hm_0 rfl)) (fun h => (sd_L_lawOf_320 h h_post rfl hm_1 rfl)))) hm_1)) (fun h => (cb_eq (F := fun z => post z _) hm_0 (h_post _ h))))))) (fun h => (cb_eq (F := fun z => post z _) hm_0 (h_post _ h)))))))) (fun h => (cb_eq (F := fun z => post z _) hm_0 (h_post _ h))))) hm_0 (hm_sub rfl hm_1))))) (fun h => (cb_eq (F := fun z => post z _) hm_0 (h_post _ h))))
def bd_L_lawOf_186 (post : Nat → Bool) (y_x1 : Nat) (y_x2 : Nat) (x4 : Nat) (x5 : Nat) (z0 : Nat) (z1 : Nat) (fm0_absent : Nat) (fm0_queueEnd : Nat) (am1681 : Nat) (am1682 : Nat) (am1683 : Nat) (am1684 : Nat) (am1685 : Nat) (am1686 : Nat) (am1687 : Nat) (am1688 : Nat) : Bool := (cond (bd_eq z1 (bd_sb (Nat.add z0 10) x4)) (bd_pX_needed (fun r_155 fm0_absent_156 fm0_queueEnd_157 am1981_160 am1982_163 am1983_166 am1984_169 am1985_172 am1986_175 am1987_178 am1988_181 => (cond (bd_eq x5 0) (bd_L_lawOf_211 post y_x1 y_x2 x4 x5 1 r_155 fm0_absent_156 fm0_queueEnd_157 am1981_160 am1982_163 am1983_166 am1984_169 am1985_172 am1986_175 am1987_178 am1988_181) (bd_L_lawOf_211 post y_x1 y_x2 x4 x5 0 r_155 fm0_absent_156 fm0_queueEnd_157 am1981_160 am1982_163 am1983_166 am1984_169 am1985_172 am1986_175 am1987_178 am1988_181))) fm0_absent fm0_queueEnd am1681 am1682 am1683 am1684 am1685 am1686 am1687 am1688 0 1) (post 0))
theorem sd_L_lawOf_186 {post : Int32 → St0 → Prop} {q_post : Nat → Bool} {mc : Nat} {ms : Nat} {x1 : Int32} {y_x1 : Nat} {x2 : Int32} {y_x2 : Nat} {w_x4 : Int32} {x4 : Nat} {w_x5 : Int32} {x5 : Nat} {w_z0 : Int32} {z0 : Nat} {w_z1 : Int32} {z1 : Nat} {kc : Nat} {ks : Nat} {fm0_absent : Nat} {fm0_queueEnd : Nat} {am1681 : Nat} {am1682 : Nat} {am1683 : Nat} {am1684 : Nat} {am1685 : Nat} {am1686 : Nat} {am1687 : Nat} {am1688 : Nat} (h : bd_L_lawOf_186 q_post y_x1 y_x2 x4 x5 z0 z1 fm0_absent fm0_queueEnd am1681 am1682 am1683 am1684 am1685 am1686 am1687 am1688 = true) (h_post : ∀ v0 : Nat, q_post v0 = true → post (nI v0) ()) (e_x1 : x1 &&& 1 = nI y_x1) (e_x2 : x2 &&& 1 = nI y_x2) (e_x4 : w_x4 = nI x4) (e_x5 : w_x5 = nI x5) (e_z0 : w_z0 = nI z0) (e_z1 : w_z1 = nI z1) : wL_lawOf_186 post mc ms x1 x2 w_x4 w_x5 w_z0 w_z1 kc ks (nI fm0_absent) (nI fm0_queueEnd) (bd_ar am1681) (bd_ar am1682) (bd_ar am1683) (bd_ar am1684) (bd_ar am1685) (bd_ar am1686) (bd_ar am1687) (bd_ar am1688) := by
  subst e_x4
  subst e_x5
  subst e_z0
  subst e_z1
  unfold wL_lawOf_186
  unfold bd_L_lawOf_186 at h
  exact (cb_br h (hm_eq rfl (hm_sub (hm_add rfl hm_10) rfl)) (fun h => (sd_pX_needed h (fun r_155 fm0_absent_156 fm0_queueEnd_157 am1981_160 am1982_163 am1983_166 am1984_169 am1985_172 am1986_175 am1987_178 am1988_181 h => (cb_br h (hm_eq rfl hm_0) (fun h => (sd_L_lawOf_211 h h_post e_x1 e_x2 rfl rfl hm_1 rfl)) (fun h => (sd_L_lawOf_211 h h_post e_x1 e_x2 rfl rfl hm_0 rfl)))) hm_0 hm_1)) (fun h => (cb_eq (F := fun z => post z _) hm_0 (h_post _ h))))
def bd_L_lawOf_162 (post : Nat → Bool) (y_x1 : Nat) (y_x2 : Nat) (x4 : Nat) (x5 : Nat) (z0 : Nat) (z1 : Nat) (fm0_absent : Nat) (fm0_queueEnd : Nat) (am1491 : Nat) (am1492 : Nat) (am1493 : Nat) (am1494 : Nat) (am1495 : Nat) (am1496 : Nat) (am1497 : Nat) (am1498 : Nat) : Bool := (cond (bd_eq z1 z0) (bd_pX_parts (fun r_126 fm0_absent_127 fm0_queueEnd_128 am1681_131 am1682_134 am1683_137 am1684_140 am1685_143 am1686_146 am1687_149 am1688_152 => (cond (bd_eq x5 0) (bd_L_lawOf_186 post y_x1 y_x2 x4 x5 1 r_126 fm0_absent_127 fm0_queueEnd_128 am1681_131 am1682_134 am1683_137 am1684_140 am1685_143 am1686_146 am1687_149 am1688_152) (bd_L_lawOf_186 post y_x1 y_x2 x4 x5 (bd_dv (Nat.add x4 1)) r_126 fm0_absent_127 fm0_queueEnd_128 am1681_131 am1682_134 am1683_137 am1684_140 am1685_143 am1686_146 am1687_149 am1688_152))) fm0_absent fm0_queueEnd am1491 am1492 am1493 am1494 am1495 am1496 am1497 am1498) (post 0))
theorem sd_L_lawOf_162 {post : Int32 → St0 → Prop} {q_post : Nat → Bool} {mc : Nat} {ms : Nat} {x1 : Int32} {y_x1 : Nat} {x2 : Int32} {y_x2 : Nat} {w_x4 : Int32} {x4 : Nat} {w_x5 : Int32} {x5 : Nat} {w_z0 : Int32} {z0 : Nat} {w_z1 : Int32} {z1 : Nat} {kc : Nat} {ks : Nat} {fm0_absent : Nat} {fm0_queueEnd : Nat} {am1491 : Nat} {am1492 : Nat} {am1493 : Nat} {am1494 : Nat} {am1495 : Nat} {am1496 : Nat} {am1497 : Nat} {am1498 : Nat} (h : bd_L_lawOf_162 q_post y_x1 y_x2 x4 x5 z0 z1 fm0_absent fm0_queueEnd am1491 am1492 am1493 am1494 am1495 am1496 am1497 am1498 = true) (h_post : ∀ v0 : Nat, q_post v0 = true → post (nI v0) ()) (e_x1 : x1 &&& 1 = nI y_x1) (e_x2 : x2 &&& 1 = nI y_x2) (e_x4 : w_x4 = nI x4) (e_x5 : w_x5 = nI x5) (e_z0 : w_z0 = nI z0) (e_z1 : w_z1 = nI z1) : wL_lawOf_162 post mc ms x1 x2 w_x4 w_x5 w_z0 w_z1 kc ks (nI fm0_absent) (nI fm0_queueEnd) (bd_ar am1491) (bd_ar am1492) (bd_ar am1493) (bd_ar am1494) (bd_ar am1495) (bd_ar am1496) (bd_ar am1497) (bd_ar am1498) := by
  subst e_x4
  subst e_x5
  subst e_z0
  subst e_z1
  unfold wL_lawOf_162
  unfold bd_L_lawOf_162 at h
  exact (cb_br h (hm_eq rfl rfl) (fun h => (sd_pX_parts h (fun r_126 fm0_absent_127 fm0_queueEnd_128 am1681_131 am1682_134 am1683_137 am1684_140 am1685_143 am1686_146 am1687_149 am1688_152 h => (cb_br h (hm_eq rfl hm_0) (fun h => (sd_L_lawOf_186 h h_post e_x1 e_x2 rfl rfl hm_1 rfl)) (fun h => (And.intro hm_20 (sd_L_lawOf_186 h h_post e_x1 e_x2 rfl rfl (hm_div (hm_add rfl hm_1)) rfl))))))) (fun h => (cb_eq (F := fun z => post z _) hm_0 (h_post _ h))))
def bd_L_lawOf_89 (post : Nat → Bool) (y_x1 : Nat) (y_x2 : Nat) (x4 : Nat) (x5 : Nat) (fm0_absent : Nat) (fm0_queueEnd : Nat) (am41 : Nat) (am42 : Nat) (am43 : Nat) (am44 : Nat) (am45 : Nat) (am46 : Nat) (am47 : Nat) (am48 : Nat) : Nat → Nat → Nat → Bool
  | 0 => fun _ _ => false
  | n + 1 => fun x6 x7 => (cond (bd_le 9 x7) (bd_pX_most (fun r_40 fm0_absent_41 fm0_queueEnd_42 am1281_45 am1282_48 am1283_51 am1284_54 am1285_57 am1286_60 am1287_63 am1288_66 => (cond (bd_eq r_40 (bd_dv x4)) (bd_pX_guards (fun r_69 fm0_absent_70 fm0_queueEnd_71 am1391_74 am1392_77 am1393_80 am1394_83 am1395_86 am1396_89 am1397_92 am1398_95 => (cond (bd_eq r_69 x6) (bd_pX_spare (fun r_97 fm0_absent_98 fm0_queueEnd_99 am1491_102 am1492_105 am1493_108 am1494_111 am1495_114 am1496_117 am1497_120 am1498_123 => (cond (bd_eq x5 0) (bd_L_lawOf_162 post y_x1 y_x2 x4 x5 0 r_97 fm0_absent_98 fm0_queueEnd_99 am1491_102 am1492_105 am1493_108 am1494_111 am1495_114 am1496_117 am1497_120 am1498_123) (bd_L_lawOf_162 post y_x1 y_x2 x4 x5 1 r_97 fm0_absent_98 fm0_queueEnd_99 am1491_102 am1492_105 am1493_108 am1494_111 am1495_114 am1496_117 am1497_120 am1498_123))) fm0_absent_70 fm0_queueEnd_71 am1391_74 am1392_77 am1393_80 am1394_83 am1395_86 am1396_89 am1397_92 am1398_95 0) (post 0))) fm0_absent_41 fm0_queueEnd_42 am1281_45 am1282_48 am1283_51 am1284_54 am1285_57 am1286_60 am1287_63 am1288_66) (post 0))) fm0_absent fm0_queueEnd am41 am42 am43 am44 am45 am46 am47 am48) (cond (bd_eq x5 0) ((fun x6_389 : Nat => ((fun x7_390 : Nat => (bd_L_lawOf_89 post y_x1 y_x2 x4 x5 fm0_absent fm0_queueEnd am41 am42 am43 am44 am45 am46 am47 am48 n x6_389 x7_390)) (Nat.add x7 2))) (Nat.lor x6 0)) (cond (bd_le x4 x7) ((fun x6_392 : Nat => ((fun x7_393 : Nat => (bd_L_lawOf_89 post y_x1 y_x2 x4 x5 fm0_absent fm0_queueEnd am41 am42 am43 am44 am45 am46 am47 am48 n x6_392 x7_393)) (Nat.add x7 2))) (Nat.lor x6 0)) ((fun x6_394 : Nat => ((fun x7_395 : Nat => (bd_L_lawOf_89 post y_x1 y_x2 x4 x5 fm0_absent fm0_queueEnd am41 am42 am43 am44 am45 am46 am47 am48 n x6_394 x7_395)) (Nat.add x7 2))) (Nat.lor x6 (Nat.shiftLeft 1 (Nat.mod x7 32)))))))
theorem sd_L_lawOf_89 {post : Int32 → St0 → Prop} {q_post : Nat → Bool} {mc : Nat} {ms : Nat} {x1 : Int32} {y_x1 : Nat} {x2 : Int32} {y_x2 : Nat} {x4 : Nat} {x5 : Nat} {kc : Nat} {ks : Nat} {fm0_absent : Nat} {fm0_queueEnd : Nat} {am41 : Nat} {am42 : Nat} {am43 : Nat} {am44 : Nat} {am45 : Nat} {am46 : Nat} {am47 : Nat} {am48 : Nat} (h_post : ∀ v0 : Nat, q_post v0 = true → post (nI v0) ()) (e_x1 : x1 &&& 1 = nI y_x1) (e_x2 : x2 &&& 1 = nI y_x2) : ∀ (n : Nat) (x6 x7 : Nat), bd_L_lawOf_89 q_post y_x1 y_x2 x4 x5 fm0_absent fm0_queueEnd am41 am42 am43 am44 am45 am46 am47 am48 n x6 x7 = true → wL_lawOf_89 post mc ms x1 x2 (nI x4) (nI x5) kc ks (nI fm0_absent) (nI fm0_queueEnd) (bd_ar am41) (bd_ar am42) (bd_ar am43) (bd_ar am44) (bd_ar am45) (bd_ar am46) (bd_ar am47) (bd_ar am48) n (nI x6) (nI x7) := by
  intro n
  induction n with
  | zero => intro x6 x7 h; exact absurd h Bool.false_ne_true
  | succ n ih =>
    intro x6 x7 h
    unfold bd_L_lawOf_89 at h
    exact (cb_br h (hm_le hm_9 rfl) (fun h => (sd_pX_most h (fun r_40 fm0_absent_41 fm0_queueEnd_42 am1281_45 am1282_48 am1283_51 am1284_54 am1285_57 am1286_60 am1287_63 am1288_66 h => (And.intro hm_20 (cb_br h (hm_eq rfl (hm_div rfl)) (fun h => (sd_pX_guards h (fun r_69 fm0_absent_70 fm0_queueEnd_71 am1391_74 am1392_77 am1393_80 am1394_83 am1395_86 am1396_89 am1397_92 am1398_95 h => (cb_br h (hm_eq rfl rfl) (fun h => (sd_pX_spare h (fun r_97 fm0_absent_98 fm0_queueEnd_99 am1491_102 am1492_105 am1493_108 am1494_111 am1495_114 am1496_117 am1497_120 am1498_123 h => (cb_br h (hm_eq rfl hm_0) (fun h => (sd_L_lawOf_162 h h_post e_x1 e_x2 rfl rfl hm_0 rfl)) (fun h => (sd_L_lawOf_162 h h_post e_x1 e_x2 rfl rfl hm_1 rfl)))) hm_0)) (fun h => (cb_eq (F := fun z => post z _) hm_0 (h_post _ h))))))) (fun h => (cb_eq (F := fun z => post z _) hm_0 (h_post _ h)))))))) (fun h => (cb_br h (hm_eq rfl hm_0) (fun h => (nm_r (hm_or rfl hm_0) (nm_r (hm_add rfl hm_2) (ih _ _ h)))) (fun h => (cb_br h (hm_le rfl rfl) (fun h => (nm_r (hm_or rfl hm_0) (nm_r (hm_add rfl hm_2) (ih _ _ h)))) (fun h => (nm_r (hm_or rfl (hm_shl hm_1 rfl)) (nm_r (hm_add rfl hm_2) (ih _ _ h)))))))))
def bd_L_lawOf_35 (post : Nat → Bool) (y_x1 : Nat) (y_x2 : Nat) (x4 : Nat) : Nat → Nat → Nat → Nat → Nat → Nat → Nat → Nat → Nat → Nat → Nat → Nat → Bool
  | 0 => fun _ _ _ _ _ _ _ _ _ _ _ => false
  | n + 1 => fun x5 fm0_absent fm0_queueEnd am41 am42 am43 am44 am45 am46 am47 am48 => (cond (bd_le 9 x5) (cond (bd_eq (Nat.land x4 1) 1) (bd_L_lawOf_89 post y_x1 y_x2 x4 1 fm0_absent fm0_queueEnd am41 am42 am43 am44 am45 am46 am47 am48 12 0 1) (bd_L_lawOf_89 post y_x1 y_x2 x4 0 fm0_absent fm0_queueEnd am41 am42 am43 am44 am45 am46 am47 am48 12 0 1)) (cond (bd_le x4 (Nat.add x5 1)) ((fun x5_397 : Nat => (bd_L_lawOf_35 post y_x1 y_x2 x4 n x5_397 fm0_absent fm0_queueEnd am41 am42 am43 am44 am45 am46 am47 am48)) (Nat.add x5 1)) (bd_pX_join (fun r_398 fm0_absent_399 fm0_queueEnd_400 am581_403 am582_406 am583_409 am584_412 am585_415 am586_418 am587_421 am588_424 => ((fun x5_425 : Nat => (bd_L_lawOf_35 post y_x1 y_x2 x4 n x5_425 fm0_absent_399 fm0_queueEnd_400 am581_403 am582_406 am583_409 am584_412 am585_415 am586_418 am587_421 am588_424)) (Nat.add x5 1))) fm0_absent fm0_queueEnd am41 am42 am43 am44 am45 am46 am47 am48 x5 (Nat.add x5 1))))
theorem sd_L_lawOf_35 {post : Int32 → St0 → Prop} {q_post : Nat → Bool} {mc : Nat} {ms : Nat} {x1 : Int32} {y_x1 : Nat} {x2 : Int32} {y_x2 : Nat} {x4 : Nat} {kc : Nat} {ks : Nat} (h_post : ∀ v0 : Nat, q_post v0 = true → post (nI v0) ()) (e_x1 : x1 &&& 1 = nI y_x1) (e_x2 : x2 &&& 1 = nI y_x2) : ∀ (n : Nat) (x5 fm0_absent fm0_queueEnd am41 am42 am43 am44 am45 am46 am47 am48 : Nat), bd_L_lawOf_35 q_post y_x1 y_x2 x4 n x5 fm0_absent fm0_queueEnd am41 am42 am43 am44 am45 am46 am47 am48 = true → wL_lawOf_35 post mc ms x1 x2 (nI x4) kc ks n (nI x5) (nI fm0_absent) (nI fm0_queueEnd) (bd_ar am41) (bd_ar am42) (bd_ar am43) (bd_ar am44) (bd_ar am45) (bd_ar am46) (bd_ar am47) (bd_ar am48) := by
  intro n
  induction n with
  | zero => intro x5 fm0_absent fm0_queueEnd am41 am42 am43 am44 am45 am46 am47 am48 h; exact absurd h Bool.false_ne_true
  | succ n ih =>
    intro x5 fm0_absent fm0_queueEnd am41 am42 am43 am44 am45 am46 am47 am48 h
    unfold bd_L_lawOf_35 at h
    exact (cb_br h (hm_le hm_9 rfl) (fun h => (cb_br h (hm_eq (hm_and rfl hm_1) hm_1) (fun h => (Exists.intro 12 (sd_L_lawOf_89 h_post e_x1 e_x2 12 _ _ h))) (fun h => (Exists.intro 12 (sd_L_lawOf_89 h_post e_x1 e_x2 12 _ _ h))))) (fun h => (cb_br h (hm_le rfl (hm_add rfl hm_1)) (fun h => (nm_r (hm_add rfl hm_1) (ih _ _ _ _ _ _ _ _ _ _ _ h))) (fun h => (sd_pX_join h (fun r_398 fm0_absent_399 fm0_queueEnd_400 am581_403 am582_406 am583_409 am584_412 am585_415 am586_418 am587_421 am588_424 h => (nm_r (hm_add rfl hm_1) (ih _ _ _ _ _ _ _ _ _ _ _ h))) rfl (hm_add rfl hm_1))))))
end
section
def cd_run (j k1 k2 : Nat) : Bool := bd_L_lawOf_35 (fun r => Nat.beq r 1) k1 k2 (Nat.add 3 j) 12 0 0 0 0 0 0 0 0 0 0 0
theorem cd_000 : cd_run 0 0 0 = true := by decide +kernel
theorem cd_001 : cd_run 0 0 1 = true := by decide +kernel
theorem cd_010 : cd_run 0 1 0 = true := by decide +kernel
theorem cd_011 : cd_run 0 1 1 = true := by decide +kernel
theorem cd_100 : cd_run 1 0 0 = true := by decide +kernel
theorem cd_101 : cd_run 1 0 1 = true := by decide +kernel
theorem cd_110 : cd_run 1 1 0 = true := by decide +kernel
theorem cd_111 : cd_run 1 1 1 = true := by decide +kernel
theorem cd_200 : cd_run 2 0 0 = true := by decide +kernel
theorem cd_201 : cd_run 2 0 1 = true := by decide +kernel
theorem cd_210 : cd_run 2 1 0 = true := by decide +kernel
theorem cd_211 : cd_run 2 1 1 = true := by decide +kernel
theorem cd_300 : cd_run 3 0 0 = true := by decide +kernel
theorem cd_301 : cd_run 3 0 1 = true := by decide +kernel
theorem cd_310 : cd_run 3 1 0 = true := by decide +kernel
theorem cd_311 : cd_run 3 1 1 = true := by decide +kernel
theorem cd_400 : cd_run 4 0 0 = true := by decide +kernel
theorem cd_401 : cd_run 4 0 1 = true := by decide +kernel
theorem cd_410 : cd_run 4 1 0 = true := by decide +kernel
theorem cd_411 : cd_run 4 1 1 = true := by decide +kernel
theorem cd_500 : cd_run 5 0 0 = true := by decide +kernel
theorem cd_501 : cd_run 5 0 1 = true := by decide +kernel
theorem cd_510 : cd_run 5 1 0 = true := by decide +kernel
theorem cd_511 : cd_run 5 1 1 = true := by decide +kernel
theorem cd_600 : cd_run 6 0 0 = true := by decide +kernel
theorem cd_601 : cd_run 6 0 1 = true := by decide +kernel
theorem cd_610 : cd_run 6 1 0 = true := by decide +kernel
theorem cd_611 : cd_run 6 1 1 = true := by decide +kernel
theorem cd_700 : cd_run 7 0 0 = true := by decide +kernel
theorem cd_701 : cd_run 7 0 1 = true := by decide +kernel
theorem cd_710 : cd_run 7 1 0 = true := by decide +kernel
theorem cd_711 : cd_run 7 1 1 = true := by decide +kernel
theorem cd_all : ∀ j, j < 8 → ∀ a, a < 2 → ∀ b, b < 2 → cd_run j a b = true := by
  intro j hj a ha b hb
  have h1 : j = 0 ∨ j = 1 ∨ j = 2 ∨ j = 3 ∨ j = 4 ∨ j = 5 ∨ j = 6 ∨ j = 7 := by omega
  have h2 : a = 0 ∨ a = 1 := by omega
  have h3 : b = 0 ∨ b = 1 := by omega
  rcases h1 with rfl | rfl | rfl | rfl | rfl | rfl | rfl | rfl <;> rcases h2 with rfl | rfl <;> rcases h3 with rfl | rfl
  · exact cd_000
  · exact cd_001
  · exact cd_010
  · exact cd_011
  · exact cd_100
  · exact cd_101
  · exact cd_110
  · exact cd_111
  · exact cd_200
  · exact cd_201
  · exact cd_210
  · exact cd_211
  · exact cd_300
  · exact cd_301
  · exact cd_310
  · exact cd_311
  · exact cd_400
  · exact cd_401
  · exact cd_410
  · exact cd_411
  · exact cd_500
  · exact cd_501
  · exact cd_510
  · exact cd_511
  · exact cd_600
  · exact cd_601
  · exact cd_610
  · exact cd_611
  · exact cd_700
  · exact cd_701
  · exact cd_710
  · exact cd_711
end
section
theorem cd_cell {post : Int32 → Prop} {L : Nat} {xs : Nat → Int32} (hL : L ≤ 3) (k : Nat) (hk : k < 3) (h : ∀ r, post r) : wpL_cellAt post L xs () (nI k) := by
  unfold wpL_cellAt
  refine br_c (fun _ => h _) (fun z => ⟨?_, h _⟩)
  refine vp_in_nI ?_ (by omega)
  rcases Nat.lt_or_ge k L with g | g
  · exact g
  · exact absurd (nI_le g (by omega)) z
theorem cd_law (p0 p1 p2 : Int32) : wpL_lawOf (fun r _ => r = 1) 54 864 () p0 p1 p2 := by
  obtain ⟨j, hj, e0⟩ := pk_andE p0 (m := 7) 3 (by decide)
  obtain ⟨a, ha, e1⟩ := pk_andE p1 (m := 1) 1 (by decide)
  obtain ⟨b, hb, e2⟩ := pk_andE p2 (m := 1) 1 (by decide)
  have hr : cd_run j a b = true := cd_all j hj a ha b hb
  unfold wpL_lawOf
  refine ⟨by decide, by decide, 8, 80, by decide, by decide, ?_⟩
  unfold wpX_init
  rw [bd_zero]
  refine ⟨by decide, by decide, by decide, by decide, by decide, by decide, by decide, by decide, by decide, by decide, by decide, by decide, by decide, by decide, by decide, by decide, ?_⟩
  refine nm_r (hm_add (show (3 : Int32) = nI 3 from rfl) e0) ?_
  refine br_t (nI_le (a := Nat.add 3 j) (b := 10) (show 3 + j ≤ 10 by omega) (by decide)) ⟨12, ?_⟩
  exact sd_L_lawOf_35 (fun r h => by rw [Nat.eq_of_beq_eq_true h]; rfl) e1 e2 12 _ _ _ _ _ _ _ _ _ _ _ hr
theorem i_vc (xs : Nat → Int32) (L : Nat) (hL : L ≤ 3) : wpL_law (fun r => r = 1) L xs := by
  unfold wpL_law
  exact cd_cell hL 0 (by omega) (fun r1 => cd_cell hL 1 (by omega) (fun r2 => cd_cell hL 2 (by omega) (fun r3 => ⟨54, 864, by decide, by decide, cd_law r1 r2 r3⟩)))
end

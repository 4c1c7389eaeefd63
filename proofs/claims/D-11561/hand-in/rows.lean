section
/-- the natural behind an int -/
def cc_n (x : Int32) : Nat := x.toBitVec.toNat
theorem cc_n_lt (x : Int32) : cc_n x < 4294967296 := x.toBitVec.isLt
theorem cc_n_inj {x y : Int32} (h : cc_n x = cc_n y) : x = y := Int32.toBitVec_inj.mp (BitVec.eq_of_toNat_eq h)
theorem cc_n_of (x : Int32) : Int32.ofNat (cc_n x) = x := by
  apply cc_n_inj
  show (BitVec.ofNat 32 (cc_n x)).toNat = cc_n x
  rw [BitVec.toNat_ofNat]
  exact Nat.mod_eq_of_lt (cc_n_lt x)
theorem cc_toInt (x : Int32) : x.toInt = if 2 * cc_n x < 4294967296 then (cc_n x : Int) else (cc_n x : Int) - 4294967296 :=
  BitVec.toInt_eq_toNat_cond x.toBitVec
/-- the comparisons, over naturals -/
def cc_le (x y : Int32) : Bool := Nat.ble ((cc_n x + 2147483648) % 4294967296) ((cc_n y + 2147483648) % 4294967296)
theorem cc_le_p (x y : Int32) : cc_le x y = true ↔ x ≤ y := by
  have hx := cc_n_lt x
  have hy := cc_n_lt y
  rw [Int32.le_iff_toInt_le, cc_toInt, cc_toInt]
  unfold cc_le
  rw [Nat.ble_eq]
  generalize cc_n x = a at *
  generalize cc_n y = b at *
  split <;> split <;> omega
def cc_lt (x y : Int32) : Bool := not (cc_le y x)
theorem cc_lt_p (x y : Int32) : cc_lt x y = true ↔ x < y := by
  have h := cc_le_p y x
  rw [Int32.le_iff_toInt_le] at h
  rw [Int32.lt_iff_toInt_lt]
  unfold cc_lt
  cases e : cc_le y x
  · rw [e] at h
    have h' : ¬ y.toInt ≤ x.toInt := fun z => absurd (h.mpr z) Bool.false_ne_true
    exact ⟨fun _ => by omega, fun _ => rfl⟩
  · rw [e] at h
    have h' : y.toInt ≤ x.toInt := h.mp rfl
    exact ⟨fun z => absurd z Bool.false_ne_true, fun z => absurd z (by omega)⟩
def cc_eq (x y : Int32) : Bool := Nat.beq (cc_n x) (cc_n y)
theorem cc_eq_p (x y : Int32) : cc_eq x y = true ↔ x = y := by
  unfold cc_eq
  rw [Nat.beq_eq]
  exact ⟨cc_n_inj, fun h => by rw [h]⟩
/-- 'bit w of v is not set' -/
def cc_bit (v w : Int32) : Bool := Nat.beq (Nat.shiftRight (cc_n v) (cc_n w % 32) % 2) 0
theorem cc_bit_p (v w : Int32) : cc_bit v w = true ↔ ((v.toUInt32 >>> (w.toUInt32 &&& Int32.toUInt32 31)).toInt32 &&& 1) = 0 := by
  have hk : ((w.toUInt32 &&& Int32.toUInt32 31).toBitVec % 32).toNat = cc_n w % 32 := by
    have e : (w.toUInt32 &&& Int32.toUInt32 31).toBitVec.toNat = cc_n w % 32 := by
      rw [UInt32.toBitVec_and, BitVec.toNat_and]
      exact Nat.and_two_pow_sub_one_eq_mod (cc_n w) 5
    rw [BitVec.toNat_umod, e]
    show cc_n w % 32 % 32 = cc_n w % 32
    omega
  have h1 := pk_ushr v w (cc_n w % 32) hk
  have h2 := pk_and (v.toUInt32 >>> (w.toUInt32 &&& Int32.toUInt32 31)).toInt32 (m := 1) 1 (by decide)
  rw [h2, h1]
  unfold cc_bit
  rw [Nat.beq_eq]
  have e : Nat.shiftRight (cc_n v) (cc_n w % 32) = v.toBitVec.toNat / 2 ^ (cc_n w % 32) := Nat.shiftRight_eq_div_pow _ _
  rw [e]
  show v.toBitVec.toNat / 2 ^ (cc_n w % 32) % 2 = 0 ↔ nI (v.toBitVec.toNat / 2 ^ (cc_n w % 32) % 2) = nI 0
  exact (nI_eq (by omega) (by omega)).symm
/-- a branch -/
theorem cc_if {b : Bool} {c : Prop} {A B : Bool} {P Q : Prop} (hb : b = true ↔ c) (h : cond b A B = true) (f : A = true → P) (g : B = true → Q) : (c → P) ∧ (¬ c → Q) := by
  cases b
  · exact ⟨fun z => absurd (hb.mpr z) Bool.false_ne_true, fun _ => g h⟩
  · exact ⟨fun _ => f h, fun z => absurd (hb.mp rfl) z⟩
/-- a place of an array of eight -/
def cc_in (x : Int32) : Bool := Nat.ble (cc_n x) 7
theorem cc_in_v {x : Int32} (h : cc_in x = true) : vp_in x 8 := by
  have h' : cc_n x ≤ 7 := Nat.le_of_ble_eq_true h
  rw [vp_in_iff, cc_toInt, if_pos (by omega)]
  omega
theorem cc_in_p {x : Int32} {A : Bool} {P : Prop} (h : (cc_in x && A) = true) (f : A = true → P) : vp_in x 8 ∧ P := by
  rw [Bool.and_eq_true] at h
  exact ⟨cc_in_v h.1, f h.2⟩
/-- an int that is a boolean -/
def cc_bo (x : Int32) : Bool := Nat.ble (cc_n x) 1
theorem cc_bo_v {x : Int32} (h : cc_bo x = true) : narrow .boolean (.int x) = .int x := by
  have h' : cc_n x ≤ 1 := Nat.le_of_ble_eq_true h
  have e : x = 0 ∨ x = 1 := by
    rcases Nat.lt_or_ge (cc_n x) 1 with z | z
    · exact Or.inl (cc_n_inj (show cc_n x = 0 by omega))
    · exact Or.inr (cc_n_inj (show cc_n x = 1 by omega))
  rcases e with rfl | rfl
  · rfl
  · rfl
theorem cc_bo_p {x : Int32} {A : Bool} {P : Prop} (h : (cc_bo x && A) = true) (f : A = true → P) : narrow .boolean (.int x) = .int x ∧ P := by
  rw [Bool.and_eq_true] at h
  exact ⟨cc_bo_v h.1, f h.2⟩
/-- an array, as the list of its naturals -/
def cc_gt : List Nat → Nat → Nat
  | [], _ => 0
  | a :: _, 0 => a
  | _ :: l, j + 1 => cc_gt l j
def cc_F (l : List Nat) : Nat → Int32 := fun j => Int32.ofNat (cc_gt l j)
def cc_set (v : Nat) : Nat → List Nat → List Nat
  | 0, [] => [v]
  | 0, _ :: l => v :: l
  | i + 1, [] => 0 :: cc_set v i []
  | i + 1, a :: l => a :: cc_set v i l
theorem cc_gt_set (v : Nat) : ∀ (i : Nat) (l : List Nat) (j : Nat), cc_gt (cc_set v i l) j = if j = i then v else cc_gt l j := by
  intro i
  induction i with
  | zero =>
    intro l j
    cases l with
    | nil => cases j with
      | zero => rfl
      | succ j => rfl
    | cons a l => cases j with
      | zero => rfl
      | succ j => rfl
  | succ i ih =>
    intro l j
    cases l with
    | nil => cases j with
      | zero => rfl
      | succ j =>
        show cc_gt (cc_set v i []) j = _
        rw [ih]
        by_cases e : j = i
        · rw [if_pos e, if_pos (by omega)]
        · rw [if_neg e, if_neg (by omega)]; rfl
    | cons a l => cases j with
      | zero => rfl
      | succ j =>
        show cc_gt (cc_set v i l) j = _
        rw [ih]
        by_cases e : j = i
        · rw [if_pos e, if_pos (by omega)]
        · rw [if_neg e, if_neg (by omega)]; rfl
theorem cc_F_set (v : Int32) (i : Nat) (l : List Nat) : upd (cc_F l) i v = cc_F (cc_set (cc_n v) i l) := by
  funext j
  show (if j = i then v else Int32.ofNat (cc_gt l j)) = Int32.ofNat (cc_gt (cc_set (cc_n v) i l) j)
  rw [cc_gt_set]
  by_cases e : j = i
  · rw [if_pos e, if_pos e, cc_n_of]
  · rw [if_neg e, if_neg e]
def cc_setk (v : Nat) : Nat → List Nat → (List Nat → Bool) → Bool
  | 0, [], k => k [v]
  | 0, _ :: l, k => k (v :: l)
  | i + 1, [], k => cc_setk v i [] (fun t => k (0 :: t))
  | i + 1, a :: l, k => cc_setk v i l (fun t => k (a :: t))
theorem cc_setk_e (v : Nat) : ∀ (i : Nat) (l : List Nat) (k : List Nat → Bool), cc_setk v i l k = k (cc_set v i l) := by
  intro i
  induction i with
  | zero => intro l k; cases l <;> rfl
  | succ i ih =>
    intro l k
    cases l with
    | nil => exact ih [] (fun t => k (0 :: t))
    | cons a l => exact ih l (fun t => k (a :: t))
/-- a value that is worked out before it is handed on -/
def cc_fN (n : Nat) (k : Nat → Bool) : Bool := match n with
  | 0 => k 0
  | Nat.succ m => k (Nat.succ m)
theorem cc_fN_e (n : Nat) (k : Nat → Bool) : cc_fN n k = k n := by cases n <;> rfl
def cc_f (x : Int32) (k : Int32 → Bool) : Bool := cc_fN (cc_n x) (fun n => k (Int32.ofNat n))
theorem cc_f_p {e : Int32} {k : Int32 → Bool} {P : Int32 → Prop} (h : cc_f e k = true) (f : ∀ y, k y = true → P y) : ∀ y, y = e → P y := by
  intro y ey
  subst ey
  unfold cc_f at h
  rw [cc_fN_e, cc_n_of] at h
  exact f y h
/-- a store -/
def cc_s (l : List Nat) (i : Nat) (v : Int32) (k : List Nat → Bool) : Bool := cc_fN (cc_n v) (fun n => cc_setk n i l k)
theorem cc_s_p {l : List Nat} {i : Nat} {v : Int32} {k : List Nat → Bool} {P : (Nat → Int32) → Prop} (h : cc_s l i v k = true) (f : ∀ t, k t = true → P (cc_F t)) : ∀ a, a = upd (cc_F l) i v → P a := by
  intro a ea
  subst ea
  unfold cc_s at h
  rw [cc_fN_e, cc_setk_e] at h
  rw [cc_F_set]
  exact f _ h
end
section
def cc_enter_81 (k_post : Int32 → List Nat → List Nat → List Nat → List Nat → List Nat → List Nat → Bool) (k_J54 : Int32 → List Nat → List Nat → List Nat → List Nat → List Nat → List Nat → Bool) (x1 : Int32) (x4 : Int32) (x5 : Int32) (f0_count : Int32) (a1 : List Nat) (a2 : List Nat) (a3 : List Nat) (a4 : List Nat) (a5 : List Nat) (a6 : List Nat) : Bool := cc_in f0_count && (cc_in x5 && (cc_in f0_count && (cc_s a5 f0_count.toNatClampNeg ((cc_F a5 f0_count.toNatClampNeg) ||| (((1 : Int32) <<< (x5 &&& 31)) ||| (cc_F a5 x5.toNatClampNeg))) (fun a5_18 => cc_f (x5 + 1) (fun x5_19 => k_J54 x5_19 a1 a2 a3 a4 a5_18 a6)))))
theorem cc_T_enter_81 {k_post : Int32 → List Nat → List Nat → List Nat → List Nat → List Nat → List Nat → Bool} {post : St2 → Prop} {k_J54 : Int32 → List Nat → List Nat → List Nat → List Nat → List Nat → List Nat → Bool} {J54 : Int32 → (Nat → Int32) → (Nat → Int32) → (Nat → Int32) → (Nat → Int32) → (Nat → Int32) → (Nat → Int32) → Prop} {x1 : Int32} {x4 : Int32} {x5 : Int32} {f0_count : Int32} {a1 : List Nat} {a2 : List Nat} {a3 : List Nat} {a4 : List Nat} {a5 : List Nat} {a6 : List Nat} (h : cc_enter_81 k_post k_J54 x1 x4 x5 f0_count a1 a2 a3 a4 a5 a6 = true) (h_post : ∀ (v0 : Int32) (v1 : List Nat) (v2 : List Nat) (v3 : List Nat) (v4 : List Nat) (v5 : List Nat) (v6 : List Nat), k_post v0 v1 v2 v3 v4 v5 v6 = true → post (v0, cc_F v1, cc_F v2, cc_F v3, cc_F v4, cc_F v5, cc_F v6)) (h_J54 : ∀ (v0 : Int32) (v1 : List Nat) (v2 : List Nat) (v3 : List Nat) (v4 : List Nat) (v5 : List Nat) (v6 : List Nat), k_J54 v0 v1 v2 v3 v4 v5 v6 = true → J54 v0 (cc_F v1) (cc_F v2) (cc_F v3) (cc_F v4) (cc_F v5) (cc_F v6)) : wX_enter_81 post J54 x1 x4 x5 f0_count (cc_F a1) (cc_F a2) (cc_F a3) (cc_F a4) (cc_F a5) (cc_F a6) := by
  unfold cc_enter_81 at h
  unfold wX_enter_81
  exact cc_in_p h (fun h => cc_in_p h (fun h => cc_in_p h (fun h => cc_s_p h (fun a5_18 h => cc_f_p h (fun x5_19 h => h_J54 _ _ _ _ _ _ _ h)))))
def cc_enter_54 (k_post : Int32 → List Nat → List Nat → List Nat → List Nat → List Nat → List Nat → Bool) (x1 : Int32) (x4 : Int32) (f0_count : Int32) : Nat → Int32 → List Nat → List Nat → List Nat → List Nat → List Nat → List Nat → Bool
  | 0 => fun _ _ _ _ _ _ _ => false
  | n + 1 => fun x5 a1 a2 a3 a4 a5 a6 => cond (cc_le f0_count x5) (cc_f (f0_count + 1) (fun f_12 => k_post f_12 a1 a2 a3 a4 a5 a6)) (cc_in x5 && (cond (cc_eq (cc_F a1 x5.toNatClampNeg) x1) (cc_enter_81 k_post (cc_enter_54 k_post x1 x4 f0_count n) x1 x4 x5 f0_count a1 a2 a3 a4 a5 a6) (cond (cc_eq x5 x4) (cc_enter_81 k_post (cc_enter_54 k_post x1 x4 f0_count n) x1 x4 x5 f0_count a1 a2 a3 a4 a5 a6) (cc_f (x5 + 1) (fun x5_21 => cc_enter_54 k_post x1 x4 f0_count n x5_21 a1 a2 a3 a4 a5 a6)))))
theorem cc_T_enter_54 {k_post : Int32 → List Nat → List Nat → List Nat → List Nat → List Nat → List Nat → Bool} {post : St2 → Prop} {x1 : Int32} {x4 : Int32} {f0_count : Int32} (h_post : ∀ (v0 : Int32) (v1 : List Nat) (v2 : List Nat) (v3 : List Nat) (v4 : List Nat) (v5 : List Nat) (v6 : List Nat), k_post v0 v1 v2 v3 v4 v5 v6 = true → post (v0, cc_F v1, cc_F v2, cc_F v3, cc_F v4, cc_F v5, cc_F v6)) : ∀ (n : Nat) (x5 : Int32) (a1 : List Nat) (a2 : List Nat) (a3 : List Nat) (a4 : List Nat) (a5 : List Nat) (a6 : List Nat), cc_enter_54 k_post x1 x4 f0_count n x5 a1 a2 a3 a4 a5 a6 = true → wX_enter_54 post x1 x4 f0_count n x5 (cc_F a1) (cc_F a2) (cc_F a3) (cc_F a4) (cc_F a5) (cc_F a6) := by
  intro n
  induction n with
  | zero => intro x5 a1 a2 a3 a4 a5 a6 h; exact absurd h Bool.false_ne_true
  | succ n ih =>
    intro x5 a1 a2 a3 a4 a5 a6 h
    unfold cc_enter_54 at h
    unfold wX_enter_54
    exact cc_if (cc_le_p _ _) h (fun h => cc_f_p h (fun f_12 h => h_post _ _ _ _ _ _ _ h)) (fun h => cc_in_p h (fun h => cc_if (cc_eq_p _ _) h (fun h => cc_T_enter_81 h h_post ih) (fun h => cc_if (cc_eq_p _ _) h (fun h => cc_T_enter_81 h h_post ih) (fun h => cc_f_p h (fun x5_21 h => ih _ _ _ _ _ _ _ h)))))
def cc_p_enter (k_post : Int32 → List Nat → List Nat → List Nat → List Nat → List Nat → List Nat → Bool) (f0_count : Int32) (a1 a2 a3 a4 a5 a6 : List Nat) (p0 : Int32) (p1 : Int32) (p2 : Int32) (p3 : Int32) : Bool := cc_in f0_count && (cc_s a1 f0_count.toNatClampNeg p0 (fun a1_2 => cc_in f0_count && (cc_s a2 f0_count.toNatClampNeg p1 (fun a2_4 => cc_in f0_count && (cc_s a3 f0_count.toNatClampNeg (vp_nar .boolean p2) (fun a3_6 => cc_in f0_count && (cc_s a4 f0_count.toNatClampNeg p3 (fun a4_8 => cc_in f0_count && (cc_s a5 f0_count.toNatClampNeg 0 (fun a5_10 => cc_enter_54 k_post p0 p3 f0_count 9 0 a1_2 a2_4 a3_6 a4_8 a5_10 a6))))))))))
theorem cc_Tp_enter {k_post : Int32 → List Nat → List Nat → List Nat → List Nat → List Nat → List Nat → Bool} {post : St2 → Prop} {f0_count : Int32} {a1 a2 a3 a4 a5 a6 : List Nat} {p0 : Int32} {p1 : Int32} {p2 : Int32} {p3 : Int32} (h : cc_p_enter k_post f0_count a1 a2 a3 a4 a5 a6 p0 p1 p2 p3 = true) (h_post : ∀ (v0 : Int32) (v1 : List Nat) (v2 : List Nat) (v3 : List Nat) (v4 : List Nat) (v5 : List Nat) (v6 : List Nat), k_post v0 v1 v2 v3 v4 v5 v6 = true → post (v0, cc_F v1, cc_F v2, cc_F v3, cc_F v4, cc_F v5, cc_F v6)) : wpX_enter post (f0_count, cc_F a1, cc_F a2, cc_F a3, cc_F a4, cc_F a5, cc_F a6) p0 p1 p2 p3 := by
  unfold cc_p_enter at h
  unfold wpX_enter
  try dsimp only
  exact cc_in_p h (fun h => cc_s_p h (fun a1_2 h => cc_in_p h (fun h => cc_s_p h (fun a2_4 h => cc_in_p h (fun h => cc_s_p h (fun a3_6 h => cc_in_p h (fun h => cc_s_p h (fun a4_8 h => cc_in_p h (fun h => cc_s_p h (fun a5_10 h => ⟨9, cc_T_enter_54 h_post 9 _ _ _ _ _ _ _ h⟩))))))))))
def cc_p_write (k_post : Int32 → Int32 → List Nat → List Nat → List Nat → List Nat → List Nat → List Nat → Bool) (f0_count : Int32) (a1 a2 a3 a4 a5 a6 : List Nat) (p0 : Int32) (p1 : Int32) : Bool := cond (cc_lt p0 0) (k_post (- 1) f0_count a1 a2 a3 a4 a5 a6) (cond (cc_lt 2 p0) (k_post (- 1) f0_count a1 a2 a3 a4 a5 a6) (cond (cc_lt p1 0) (k_post (- 1) f0_count a1 a2 a3 a4 a5 a6) (cond (cc_lt 1 p1) (k_post (- 1) f0_count a1 a2 a3 a4 a5 a6) (cond (cc_lt f0_count 7) (cc_p_enter (fun f0_count_7 am341_10 am342_13 am343_16 am344_19 am345_22 am346_25 => k_post (f0_count_7 - 1) f0_count_7 am341_10 am342_13 am343_16 am344_19 am345_22 am346_25) f0_count a1 a2 a3 a4 a5 a6 p0 p1 1 (- 1)) (k_post (- 1) f0_count a1 a2 a3 a4 a5 a6)))))
theorem cc_Tp_write {k_post : Int32 → Int32 → List Nat → List Nat → List Nat → List Nat → List Nat → List Nat → Bool} {post : Int32 → St2 → Prop} {f0_count : Int32} {a1 a2 a3 a4 a5 a6 : List Nat} {p0 : Int32} {p1 : Int32} (h : cc_p_write k_post f0_count a1 a2 a3 a4 a5 a6 p0 p1 = true) (h_post : ∀ (v0 : Int32) (v1 : Int32) (v2 : List Nat) (v3 : List Nat) (v4 : List Nat) (v5 : List Nat) (v6 : List Nat) (v7 : List Nat), k_post v0 v1 v2 v3 v4 v5 v6 v7 = true → post v0 (v1, cc_F v2, cc_F v3, cc_F v4, cc_F v5, cc_F v6, cc_F v7)) : wpX_write post (f0_count, cc_F a1, cc_F a2, cc_F a3, cc_F a4, cc_F a5, cc_F a6) p0 p1 := by
  unfold cc_p_write at h
  unfold wpX_write
  try dsimp only
  exact cc_if (cc_lt_p _ _) h (fun h => h_post _ _ _ _ _ _ _ _ h) (fun h => cc_if (cc_lt_p _ _) h (fun h => h_post _ _ _ _ _ _ _ _ h) (fun h => cc_if (cc_lt_p _ _) h (fun h => h_post _ _ _ _ _ _ _ _ h) (fun h => cc_if (cc_lt_p _ _) h (fun h => h_post _ _ _ _ _ _ _ _ h) (fun h => cc_if (cc_lt_p _ _) h (fun h => cc_Tp_enter h (fun f0_count_7 am341_10 am342_13 am343_16 am344_19 am345_22 am346_25 h => h_post _ _ _ _ _ _ _ _ h)) (fun h => h_post _ _ _ _ _ _ _ _ h)))))
def cc_p_isSource (k_post : Int32 → Bool) (f0_count : Int32) (a1 a2 a3 a4 a5 a6 : List Nat) (p0 : Int32) (p1 : Int32) : Bool := cond (cc_eq p0 (- 1)) (k_post 1) (cond (cc_lt p0 0) (k_post 0) (cond (cc_le f0_count p0) (k_post 0) (cc_in p0 && (cond (cc_eq (cc_F a3 p0.toNatClampNeg) 0) (k_post 0) (cc_in p0 && (cond (cc_eq (cc_F a2 p0.toNatClampNeg) p1) (k_post 1) (k_post 0)))))))
theorem cc_Tp_isSource {k_post : Int32 → Bool} {post : Int32 → Prop} {f0_count : Int32} {a1 a2 a3 a4 a5 a6 : List Nat} {p0 : Int32} {p1 : Int32} (h : cc_p_isSource k_post f0_count a1 a2 a3 a4 a5 a6 p0 p1 = true) (h_post : ∀ (v0 : Int32), k_post v0 = true → post v0) : wpX_isSource post (f0_count, cc_F a1, cc_F a2, cc_F a3, cc_F a4, cc_F a5, cc_F a6) p0 p1 := by
  unfold cc_p_isSource at h
  unfold wpX_isSource
  try dsimp only
  exact cc_if (cc_eq_p _ _) h (fun h => h_post _ h) (fun h => cc_if (cc_lt_p _ _) h (fun h => h_post _ h) (fun h => cc_if (cc_le_p _ _) h (fun h => h_post _ h) (fun h => cc_in_p h (fun h => cc_if (cc_eq_p _ _) h (fun h => h_post _ h) (fun h => cc_in_p h (fun h => cc_if (cc_eq_p _ _) h (fun h => h_post _ h) (fun h => h_post _ h)))))))
def cc_p_read (k_post : Int32 → Int32 → List Nat → List Nat → List Nat → List Nat → List Nat → List Nat → Bool) (f0_count : Int32) (a1 a2 a3 a4 a5 a6 : List Nat) (p0 : Int32) (p1 : Int32) (p2 : Int32) : Bool := cond (cc_lt p0 0) (k_post (- 1) f0_count a1 a2 a3 a4 a5 a6) (cond (cc_lt 2 p0) (k_post (- 1) f0_count a1 a2 a3 a4 a5 a6) (cond (cc_lt p1 0) (k_post (- 1) f0_count a1 a2 a3 a4 a5 a6) (cond (cc_lt 1 p1) (k_post (- 1) f0_count a1 a2 a3 a4 a5 a6) (cond (cc_le 7 f0_count) (k_post (- 1) f0_count a1 a2 a3 a4 a5 a6) (cc_p_isSource (fun r_6 => cond (cc_eq r_6 0) (k_post (- 1) f0_count a1 a2 a3 a4 a5 a6) (cc_p_enter (fun f0_count_9 am431_12 am432_15 am433_18 am434_21 am435_24 am436_27 => k_post (f0_count_9 - 1) f0_count_9 am431_12 am432_15 am433_18 am434_21 am435_24 am436_27) f0_count a1 a2 a3 a4 a5 a6 p0 p1 0 p2)) f0_count a1 a2 a3 a4 a5 a6 p2 p1)))))
theorem cc_Tp_read {k_post : Int32 → Int32 → List Nat → List Nat → List Nat → List Nat → List Nat → List Nat → Bool} {post : Int32 → St2 → Prop} {f0_count : Int32} {a1 a2 a3 a4 a5 a6 : List Nat} {p0 : Int32} {p1 : Int32} {p2 : Int32} (h : cc_p_read k_post f0_count a1 a2 a3 a4 a5 a6 p0 p1 p2 = true) (h_post : ∀ (v0 : Int32) (v1 : Int32) (v2 : List Nat) (v3 : List Nat) (v4 : List Nat) (v5 : List Nat) (v6 : List Nat) (v7 : List Nat), k_post v0 v1 v2 v3 v4 v5 v6 v7 = true → post v0 (v1, cc_F v2, cc_F v3, cc_F v4, cc_F v5, cc_F v6, cc_F v7)) : wpX_read post (f0_count, cc_F a1, cc_F a2, cc_F a3, cc_F a4, cc_F a5, cc_F a6) p0 p1 p2 := by
  unfold cc_p_read at h
  unfold wpX_read
  try dsimp only
  exact cc_if (cc_lt_p _ _) h (fun h => h_post _ _ _ _ _ _ _ _ h) (fun h => cc_if (cc_lt_p _ _) h (fun h => h_post _ _ _ _ _ _ _ _ h) (fun h => cc_if (cc_lt_p _ _) h (fun h => h_post _ _ _ _ _ _ _ _ h) (fun h => cc_if (cc_lt_p _ _) h (fun h => h_post _ _ _ _ _ _ _ _ h) (fun h => cc_if (cc_le_p _ _) h (fun h => h_post _ _ _ _ _ _ _ _ h) (fun h => cc_Tp_isSource h (fun r_6 h => cc_if (cc_eq_p _ _) h (fun h => h_post _ _ _ _ _ _ _ _ h) (fun h => cc_Tp_enter h (fun f0_count_9 am431_12 am432_15 am433_18 am434_21 am435_24 am436_27 h => h_post _ _ _ _ _ _ _ _ h))))))))
def cc_hasRing_2 (k_post : Int32 → Bool) (f0_count : Int32) (a1 : List Nat) (a2 : List Nat) (a3 : List Nat) (a4 : List Nat) (a5 : List Nat) (a6 : List Nat) : Nat → Int32 → Bool
  | 0 => fun _ => false
  | n + 1 => fun x1 => cond (cc_le f0_count x1) (k_post 0) (cc_in x1 && (cond (cc_bit (cc_F a6 x1.toNatClampNeg) x1) (cc_f (x1 + 1) (fun x1_4 => cc_hasRing_2 k_post f0_count a1 a2 a3 a4 a5 a6 n x1_4)) (k_post 1)))
theorem cc_T_hasRing_2 {k_post : Int32 → Bool} {post : Int32 → Prop} {f0_count : Int32} {a1 : List Nat} {a2 : List Nat} {a3 : List Nat} {a4 : List Nat} {a5 : List Nat} {a6 : List Nat} (h_post : ∀ (v0 : Int32), k_post v0 = true → post v0) : ∀ (n : Nat) (x1 : Int32), cc_hasRing_2 k_post f0_count a1 a2 a3 a4 a5 a6 n x1 = true → wX_hasRing_2 post f0_count (cc_F a1) (cc_F a2) (cc_F a3) (cc_F a4) (cc_F a5) (cc_F a6) n x1 := by
  intro n
  induction n with
  | zero => intro x1 h; exact absurd h Bool.false_ne_true
  | succ n ih =>
    intro x1 h
    unfold cc_hasRing_2 at h
    unfold wX_hasRing_2
    exact cc_if (cc_le_p _ _) h (fun h => h_post _ h) (fun h => cc_in_p h (fun h => cc_if (cc_bit_p _ _) h (fun h => cc_f_p h (fun x1_4 h => ih _ h)) (fun h => h_post _ h)))
def cc_p_hasRing (k_post : Int32 → Bool) (f0_count : Int32) (a1 a2 a3 a4 a5 a6 : List Nat) : Bool := cc_hasRing_2 k_post f0_count a1 a2 a3 a4 a5 a6 9 0
theorem cc_Tp_hasRing {k_post : Int32 → Bool} {post : Int32 → Prop} {f0_count : Int32} {a1 a2 a3 a4 a5 a6 : List Nat} (h : cc_p_hasRing k_post f0_count a1 a2 a3 a4 a5 a6 = true) (h_post : ∀ (v0 : Int32), k_post v0 = true → post v0) : wpX_hasRing post (f0_count, cc_F a1, cc_F a2, cc_F a3, cc_F a4, cc_F a5, cc_F a6) := by
  unfold cc_p_hasRing at h
  unfold wpX_hasRing
  try dsimp only
  exact ⟨9, cc_T_hasRing_2 h_post 9 _ h⟩
def cc_close_15 (k_post : Int32 → Int32 → List Nat → List Nat → List Nat → List Nat → List Nat → List Nat → Bool) (k_J4 : Int32 → Int32 → List Nat → List Nat → List Nat → List Nat → List Nat → List Nat → Bool) (x1 : Int32) (x3 : Int32) (f0_count : Int32) : Nat → Int32 → Int32 → List Nat → List Nat → List Nat → List Nat → List Nat → List Nat → Bool
  | 0 => fun _ _ _ _ _ _ _ _ => false
  | n + 1 => fun x2 x4 a1 a2 a3 a4 a5 a6 => cond (cc_le f0_count x4) (cc_f (x3 + 1) (fun x3_4 => k_J4 x2 x3_4 a1 a2 a3 a4 a5 a6)) (cond (cc_bit x1 x3) (cc_f (x4 + 1) (fun x4_6 => cc_close_15 k_post k_J4 x1 x3 f0_count n x2 x4_6 a1 a2 a3 a4 a5 a6)) (cc_in x3 && (cond (cc_bit (cc_F a6 x3.toNatClampNeg) x4) (cc_f (x4 + 1) (fun x4_9 => cc_close_15 k_post k_J4 x1 x3 f0_count n x2 x4_9 a1 a2 a3 a4 a5 a6)) (cc_in x4 && (cc_in x3 && (cond (cc_eq ((cc_F a6 x4.toNatClampNeg) &&& ((cc_F a6 x3.toNatClampNeg) ^^^ (- 1))) 0) (cc_f (x4 + 1) (fun x4_13 => cc_close_15 k_post k_J4 x1 x3 f0_count n x2 x4_13 a1 a2 a3 a4 a5 a6)) (cc_in x3 && (cc_in x4 && (cc_in x3 && (cc_s a6 x3.toNatClampNeg ((cc_F a6 x3.toNatClampNeg) ||| (cc_F a6 x4.toNatClampNeg)) (fun a6_17 => cc_f (x4 + 1) (fun x4_18 => cc_close_15 k_post k_J4 x1 x3 f0_count n 1 x4_18 a1 a2 a3 a4 a5 a6_17))))))))))))
theorem cc_T_close_15 {k_post : Int32 → Int32 → List Nat → List Nat → List Nat → List Nat → List Nat → List Nat → Bool} {post : Int32 → St2 → Prop} {k_J4 : Int32 → Int32 → List Nat → List Nat → List Nat → List Nat → List Nat → List Nat → Bool} {J4 : Int32 → Int32 → (Nat → Int32) → (Nat → Int32) → (Nat → Int32) → (Nat → Int32) → (Nat → Int32) → (Nat → Int32) → Prop} {x1 : Int32} {x3 : Int32} {f0_count : Int32} (h_post : ∀ (v0 : Int32) (v1 : Int32) (v2 : List Nat) (v3 : List Nat) (v4 : List Nat) (v5 : List Nat) (v6 : List Nat) (v7 : List Nat), k_post v0 v1 v2 v3 v4 v5 v6 v7 = true → post v0 (v1, cc_F v2, cc_F v3, cc_F v4, cc_F v5, cc_F v6, cc_F v7)) (h_J4 : ∀ (v0 : Int32) (v1 : Int32) (v2 : List Nat) (v3 : List Nat) (v4 : List Nat) (v5 : List Nat) (v6 : List Nat) (v7 : List Nat), k_J4 v0 v1 v2 v3 v4 v5 v6 v7 = true → J4 v0 v1 (cc_F v2) (cc_F v3) (cc_F v4) (cc_F v5) (cc_F v6) (cc_F v7)) : ∀ (n : Nat) (x2 : Int32) (x4 : Int32) (a1 : List Nat) (a2 : List Nat) (a3 : List Nat) (a4 : List Nat) (a5 : List Nat) (a6 : List Nat), cc_close_15 k_post k_J4 x1 x3 f0_count n x2 x4 a1 a2 a3 a4 a5 a6 = true → wX_close_15 post J4 x1 x3 f0_count n x2 x4 (cc_F a1) (cc_F a2) (cc_F a3) (cc_F a4) (cc_F a5) (cc_F a6) := by
  intro n
  induction n with
  | zero => intro x2 x4 a1 a2 a3 a4 a5 a6 h; exact absurd h Bool.false_ne_true
  | succ n ih =>
    intro x2 x4 a1 a2 a3 a4 a5 a6 h
    unfold cc_close_15 at h
    unfold wX_close_15
    exact cc_if (cc_le_p _ _) h (fun h => cc_f_p h (fun x3_4 h => h_J4 _ _ _ _ _ _ _ _ h)) (fun h => cc_if (cc_bit_p _ _) h (fun h => cc_f_p h (fun x4_6 h => ih _ _ _ _ _ _ _ _ h)) (fun h => cc_in_p h (fun h => cc_if (cc_bit_p _ _) h (fun h => cc_f_p h (fun x4_9 h => ih _ _ _ _ _ _ _ _ h)) (fun h => cc_in_p h (fun h => cc_in_p h (fun h => cc_if (cc_eq_p _ _) h (fun h => cc_f_p h (fun x4_13 h => ih _ _ _ _ _ _ _ _ h)) (fun h => cc_in_p h (fun h => cc_in_p h (fun h => cc_in_p h (fun h => cc_s_p h (fun a6_17 h => cc_f_p h (fun x4_18 h => ih _ _ _ _ _ _ _ _ h))))))))))))
def cc_close_4 (k_post : Int32 → Int32 → List Nat → List Nat → List Nat → List Nat → List Nat → List Nat → Bool) (x1 : Int32) (f0_count : Int32) : Nat → Int32 → Int32 → List Nat → List Nat → List Nat → List Nat → List Nat → List Nat → Bool
  | 0 => fun _ _ _ _ _ _ _ _ => false
  | n + 1 => fun x2 x3 a1 a2 a3 a4 a5 a6 => cond (cc_le f0_count x3) (cc_bo x2 && (k_post x2 f0_count a1 a2 a3 a4 a5 a6)) (cc_close_15 k_post (cc_close_4 k_post x1 f0_count n) x1 x3 f0_count 9 x2 0 a1 a2 a3 a4 a5 a6)
theorem cc_T_close_4 {k_post : Int32 → Int32 → List Nat → List Nat → List Nat → List Nat → List Nat → List Nat → Bool} {post : Int32 → St2 → Prop} {x1 : Int32} {f0_count : Int32} (h_post : ∀ (v0 : Int32) (v1 : Int32) (v2 : List Nat) (v3 : List Nat) (v4 : List Nat) (v5 : List Nat) (v6 : List Nat) (v7 : List Nat), k_post v0 v1 v2 v3 v4 v5 v6 v7 = true → post v0 (v1, cc_F v2, cc_F v3, cc_F v4, cc_F v5, cc_F v6, cc_F v7)) : ∀ (n : Nat) (x2 : Int32) (x3 : Int32) (a1 : List Nat) (a2 : List Nat) (a3 : List Nat) (a4 : List Nat) (a5 : List Nat) (a6 : List Nat), cc_close_4 k_post x1 f0_count n x2 x3 a1 a2 a3 a4 a5 a6 = true → wX_close_4 post x1 f0_count n x2 x3 (cc_F a1) (cc_F a2) (cc_F a3) (cc_F a4) (cc_F a5) (cc_F a6) := by
  intro n
  induction n with
  | zero => intro x2 x3 a1 a2 a3 a4 a5 a6 h; exact absurd h Bool.false_ne_true
  | succ n ih =>
    intro x2 x3 a1 a2 a3 a4 a5 a6 h
    unfold cc_close_4 at h
    unfold wX_close_4
    exact cc_if (cc_le_p _ _) h (fun h => cc_bo_p h (fun h => h_post _ _ _ _ _ _ _ _ h)) (fun h => ⟨9, cc_T_close_15 h_post ih 9 _ _ _ _ _ _ _ _ h⟩)
def cc_p_close (k_post : Int32 → Int32 → List Nat → List Nat → List Nat → List Nat → List Nat → List Nat → Bool) (f0_count : Int32) (a1 a2 a3 a4 a5 a6 : List Nat) (p0 : Int32) : Bool := cc_close_4 k_post p0 f0_count 9 0 0 a1 a2 a3 a4 a5 a6
theorem cc_Tp_close {k_post : Int32 → Int32 → List Nat → List Nat → List Nat → List Nat → List Nat → List Nat → Bool} {post : Int32 → St2 → Prop} {f0_count : Int32} {a1 a2 a3 a4 a5 a6 : List Nat} {p0 : Int32} (h : cc_p_close k_post f0_count a1 a2 a3 a4 a5 a6 p0 = true) (h_post : ∀ (v0 : Int32) (v1 : Int32) (v2 : List Nat) (v3 : List Nat) (v4 : List Nat) (v5 : List Nat) (v6 : List Nat) (v7 : List Nat), k_post v0 v1 v2 v3 v4 v5 v6 v7 = true → post v0 (v1, cc_F v2, cc_F v3, cc_F v4, cc_F v5, cc_F v6, cc_F v7)) : wpX_close post (f0_count, cc_F a1, cc_F a2, cc_F a3, cc_F a4, cc_F a5, cc_F a6) p0 := by
  unfold cc_p_close at h
  unfold wpX_close
  try dsimp only
  exact ⟨9, cc_T_close_4 h_post 9 _ _ _ _ _ _ _ _ h⟩
def cc_converges_186 (k_post : Int32 → Int32 → List Nat → List Nat → List Nat → List Nat → List Nat → List Nat → Bool) (f0_count : Int32) (a1 : List Nat) (a2 : List Nat) (a3 : List Nat) (a4 : List Nat) (a5 : List Nat) (a6 : List Nat) : Bool := cc_p_hasRing (fun r_4 => cond (cc_eq r_4 0) (k_post 1 f0_count a1 a2 a3 a4 a5 a6) (k_post 0 f0_count a1 a2 a3 a4 a5 a6)) f0_count a1 a2 a3 a4 a5 a6
theorem cc_T_converges_186 {k_post : Int32 → Int32 → List Nat → List Nat → List Nat → List Nat → List Nat → List Nat → Bool} {post : Int32 → St2 → Prop} {f0_count : Int32} {a1 : List Nat} {a2 : List Nat} {a3 : List Nat} {a4 : List Nat} {a5 : List Nat} {a6 : List Nat} (h : cc_converges_186 k_post f0_count a1 a2 a3 a4 a5 a6 = true) (h_post : ∀ (v0 : Int32) (v1 : Int32) (v2 : List Nat) (v3 : List Nat) (v4 : List Nat) (v5 : List Nat) (v6 : List Nat) (v7 : List Nat), k_post v0 v1 v2 v3 v4 v5 v6 v7 = true → post v0 (v1, cc_F v2, cc_F v3, cc_F v4, cc_F v5, cc_F v6, cc_F v7)) : wX_converges_186 post f0_count (cc_F a1) (cc_F a2) (cc_F a3) (cc_F a4) (cc_F a5) (cc_F a6) := by
  unfold cc_converges_186 at h
  unfold wX_converges_186
  exact cc_Tp_hasRing h (fun r_4 h => cc_if (cc_eq_p _ _) h (fun h => h_post _ _ _ _ _ _ _ _ h) (fun h => h_post _ _ _ _ _ _ _ _ h))
def cc_converges_162 (k_post : Int32 → Int32 → List Nat → List Nat → List Nat → List Nat → List Nat → List Nat → Bool) : Nat → Int32 → Int32 → Int32 → List Nat → List Nat → List Nat → List Nat → List Nat → List Nat → Bool
  | 0 => fun _ _ _ _ _ _ _ _ _ => false
  | n + 1 => fun x1 x2 f0_count a1 a2 a3 a4 a5 a6 => cond (cc_le 60 x2) (cc_converges_186 k_post f0_count a1 a2 a3 a4 a5 a6) (cond (cc_eq x1 0) (cc_converges_186 k_post f0_count a1 a2 a3 a4 a5 a6) (cc_p_close (fun r_7 f0_count_8 am1761_11 am1762_14 am1763_17 am1764_20 am1765_23 am1766_26 => cc_f (x2 + 1) (fun x2_27 => cc_converges_162 k_post n r_7 x2_27 f0_count_8 am1761_11 am1762_14 am1763_17 am1764_20 am1765_23 am1766_26)) f0_count a1 a2 a3 a4 a5 a6 255))
theorem cc_T_converges_162 {k_post : Int32 → Int32 → List Nat → List Nat → List Nat → List Nat → List Nat → List Nat → Bool} {post : Int32 → St2 → Prop} (h_post : ∀ (v0 : Int32) (v1 : Int32) (v2 : List Nat) (v3 : List Nat) (v4 : List Nat) (v5 : List Nat) (v6 : List Nat) (v7 : List Nat), k_post v0 v1 v2 v3 v4 v5 v6 v7 = true → post v0 (v1, cc_F v2, cc_F v3, cc_F v4, cc_F v5, cc_F v6, cc_F v7)) : ∀ (n : Nat) (x1 : Int32) (x2 : Int32) (f0_count : Int32) (a1 : List Nat) (a2 : List Nat) (a3 : List Nat) (a4 : List Nat) (a5 : List Nat) (a6 : List Nat), cc_converges_162 k_post n x1 x2 f0_count a1 a2 a3 a4 a5 a6 = true → wX_converges_162 post n x1 x2 f0_count (cc_F a1) (cc_F a2) (cc_F a3) (cc_F a4) (cc_F a5) (cc_F a6) := by
  intro n
  induction n with
  | zero => intro x1 x2 f0_count a1 a2 a3 a4 a5 a6 h; exact absurd h Bool.false_ne_true
  | succ n ih =>
    intro x1 x2 f0_count a1 a2 a3 a4 a5 a6 h
    unfold cc_converges_162 at h
    unfold wX_converges_162
    exact cc_if (cc_le_p _ _) h (fun h => cc_T_converges_186 h h_post) (fun h => cc_if (cc_eq_p _ _) h (fun h => cc_T_converges_186 h h_post) (fun h => cc_Tp_close h (fun r_7 f0_count_8 am1761_11 am1762_14 am1763_17 am1764_20 am1765_23 am1766_26 h => cc_f_p h (fun x2_27 h => ih _ _ _ _ _ _ _ _ _ h))))
def cc_converges_115 (k_post : Int32 → Int32 → List Nat → List Nat → List Nat → List Nat → List Nat → List Nat → Bool) (k_J30 : Int32 → List Nat → List Nat → List Nat → List Nat → List Nat → List Nat → Bool) (k_J40 : Int32 → List Nat → List Nat → List Nat → List Nat → List Nat → List Nat → Bool) (x1 : Int32) (x2 : Int32) (x3 : Int32) (f0_count : Int32) (a1 : List Nat) (a2 : List Nat) (a3 : List Nat) (a4 : List Nat) (a5 : List Nat) (a6 : List Nat) : Bool := cond (cc_eq x3 0) (cc_f (x2 + 1) (fun x2_34 => k_J40 x2_34 a1 a2 a3 a4 a5 a6)) (cc_in x1 && (cond (cc_eq x2 (cc_F a4 x1.toNatClampNeg)) (cc_f (x2 + 1) (fun x2_37 => k_J40 x2_37 a1 a2 a3 a4 a5 a6)) (cc_in x1 && (cc_in (cc_F a4 x1.toNatClampNeg) && (cc_in (cc_F a4 x1.toNatClampNeg) && (cc_s a6 ((cc_F a4 x1.toNatClampNeg).toNatClampNeg) ((cc_F a6 (cc_F a4 x1.toNatClampNeg).toNatClampNeg) ||| ((1 : Int32) <<< (x2 &&& 31))) (fun a6_41 => cc_f (x2 + 1) (fun x2_42 => k_J40 x2_42 a1 a2 a3 a4 a5 a6_41))))))))
theorem cc_T_converges_115 {k_post : Int32 → Int32 → List Nat → List Nat → List Nat → List Nat → List Nat → List Nat → Bool} {post : Int32 → St2 → Prop} {k_J30 : Int32 → List Nat → List Nat → List Nat → List Nat → List Nat → List Nat → Bool} {J30 : Int32 → (Nat → Int32) → (Nat → Int32) → (Nat → Int32) → (Nat → Int32) → (Nat → Int32) → (Nat → Int32) → Prop} {k_J40 : Int32 → List Nat → List Nat → List Nat → List Nat → List Nat → List Nat → Bool} {J40 : Int32 → (Nat → Int32) → (Nat → Int32) → (Nat → Int32) → (Nat → Int32) → (Nat → Int32) → (Nat → Int32) → Prop} {x1 : Int32} {x2 : Int32} {x3 : Int32} {f0_count : Int32} {a1 : List Nat} {a2 : List Nat} {a3 : List Nat} {a4 : List Nat} {a5 : List Nat} {a6 : List Nat} (h : cc_converges_115 k_post k_J30 k_J40 x1 x2 x3 f0_count a1 a2 a3 a4 a5 a6 = true) (h_post : ∀ (v0 : Int32) (v1 : Int32) (v2 : List Nat) (v3 : List Nat) (v4 : List Nat) (v5 : List Nat) (v6 : List Nat) (v7 : List Nat), k_post v0 v1 v2 v3 v4 v5 v6 v7 = true → post v0 (v1, cc_F v2, cc_F v3, cc_F v4, cc_F v5, cc_F v6, cc_F v7)) (h_J30 : ∀ (v0 : Int32) (v1 : List Nat) (v2 : List Nat) (v3 : List Nat) (v4 : List Nat) (v5 : List Nat) (v6 : List Nat), k_J30 v0 v1 v2 v3 v4 v5 v6 = true → J30 v0 (cc_F v1) (cc_F v2) (cc_F v3) (cc_F v4) (cc_F v5) (cc_F v6)) (h_J40 : ∀ (v0 : Int32) (v1 : List Nat) (v2 : List Nat) (v3 : List Nat) (v4 : List Nat) (v5 : List Nat) (v6 : List Nat), k_J40 v0 v1 v2 v3 v4 v5 v6 = true → J40 v0 (cc_F v1) (cc_F v2) (cc_F v3) (cc_F v4) (cc_F v5) (cc_F v6)) : wX_converges_115 post J30 J40 x1 x2 x3 f0_count (cc_F a1) (cc_F a2) (cc_F a3) (cc_F a4) (cc_F a5) (cc_F a6) := by
  unfold cc_converges_115 at h
  unfold wX_converges_115
  exact cc_if (cc_eq_p _ _) h (fun h => cc_f_p h (fun x2_34 h => h_J40 _ _ _ _ _ _ _ h)) (fun h => cc_in_p h (fun h => cc_if (cc_eq_p _ _) h (fun h => cc_f_p h (fun x2_37 h => h_J40 _ _ _ _ _ _ _ h)) (fun h => cc_in_p h (fun h => cc_in_p h (fun h => cc_in_p h (fun h => cc_s_p h (fun a6_41 h => cc_f_p h (fun x2_42 h => h_J40 _ _ _ _ _ _ _ h))))))))
def cc_converges_99 (k_post : Int32 → Int32 → List Nat → List Nat → List Nat → List Nat → List Nat → List Nat → Bool) (k_J30 : Int32 → List Nat → List Nat → List Nat → List Nat → List Nat → List Nat → Bool) (k_J40 : Int32 → List Nat → List Nat → List Nat → List Nat → List Nat → List Nat → Bool) (x1 : Int32) (x2 : Int32) (z0 : Int32) (f0_count : Int32) (a1 : List Nat) (a2 : List Nat) (a3 : List Nat) (a4 : List Nat) (a5 : List Nat) (a6 : List Nat) : Bool := cond (cc_eq z0 0) (cc_converges_115 k_post k_J30 k_J40 x1 x2 z0 f0_count a1 a2 a3 a4 a5 a6) (cc_in x1 && (cond (cc_le 0 (cc_F a4 x1.toNatClampNeg)) (cc_converges_115 k_post k_J30 k_J40 x1 x2 z0 f0_count a1 a2 a3 a4 a5 a6) (k_post 0 f0_count a1 a2 a3 a4 a5 a6)))
theorem cc_T_converges_99 {k_post : Int32 → Int32 → List Nat → List Nat → List Nat → List Nat → List Nat → List Nat → Bool} {post : Int32 → St2 → Prop} {k_J30 : Int32 → List Nat → List Nat → List Nat → List Nat → List Nat → List Nat → Bool} {J30 : Int32 → (Nat → Int32) → (Nat → Int32) → (Nat → Int32) → (Nat → Int32) → (Nat → Int32) → (Nat → Int32) → Prop} {k_J40 : Int32 → List Nat → List Nat → List Nat → List Nat → List Nat → List Nat → Bool} {J40 : Int32 → (Nat → Int32) → (Nat → Int32) → (Nat → Int32) → (Nat → Int32) → (Nat → Int32) → (Nat → Int32) → Prop} {x1 : Int32} {x2 : Int32} {z0 : Int32} {f0_count : Int32} {a1 : List Nat} {a2 : List Nat} {a3 : List Nat} {a4 : List Nat} {a5 : List Nat} {a6 : List Nat} (h : cc_converges_99 k_post k_J30 k_J40 x1 x2 z0 f0_count a1 a2 a3 a4 a5 a6 = true) (h_post : ∀ (v0 : Int32) (v1 : Int32) (v2 : List Nat) (v3 : List Nat) (v4 : List Nat) (v5 : List Nat) (v6 : List Nat) (v7 : List Nat), k_post v0 v1 v2 v3 v4 v5 v6 v7 = true → post v0 (v1, cc_F v2, cc_F v3, cc_F v4, cc_F v5, cc_F v6, cc_F v7)) (h_J30 : ∀ (v0 : Int32) (v1 : List Nat) (v2 : List Nat) (v3 : List Nat) (v4 : List Nat) (v5 : List Nat) (v6 : List Nat), k_J30 v0 v1 v2 v3 v4 v5 v6 = true → J30 v0 (cc_F v1) (cc_F v2) (cc_F v3) (cc_F v4) (cc_F v5) (cc_F v6)) (h_J40 : ∀ (v0 : Int32) (v1 : List Nat) (v2 : List Nat) (v3 : List Nat) (v4 : List Nat) (v5 : List Nat) (v6 : List Nat), k_J40 v0 v1 v2 v3 v4 v5 v6 = true → J40 v0 (cc_F v1) (cc_F v2) (cc_F v3) (cc_F v4) (cc_F v5) (cc_F v6)) : wX_converges_99 post J30 J40 x1 x2 z0 f0_count (cc_F a1) (cc_F a2) (cc_F a3) (cc_F a4) (cc_F a5) (cc_F a6) := by
  unfold cc_converges_99 at h
  unfold wX_converges_99
  exact cc_if (cc_eq_p _ _) h (fun h => cc_T_converges_115 h h_post h_J30 h_J40) (fun h => cc_in_p h (fun h => cc_if (cc_le_p _ _) h (fun h => cc_T_converges_115 h h_post h_J30 h_J40) (fun h => h_post _ _ _ _ _ _ _ _ h)))
def cc_converges_98 (k_post : Int32 → Int32 → List Nat → List Nat → List Nat → List Nat → List Nat → List Nat → Bool) (k_J30 : Int32 → List Nat → List Nat → List Nat → List Nat → List Nat → List Nat → Bool) (k_J40 : Int32 → List Nat → List Nat → List Nat → List Nat → List Nat → List Nat → Bool) (x1 : Int32) (x2 : Int32) (f0_count : Int32) (a1 : List Nat) (a2 : List Nat) (a3 : List Nat) (a4 : List Nat) (a5 : List Nat) (a6 : List Nat) : Bool := cc_converges_99 k_post k_J30 k_J40 x1 x2 0 f0_count a1 a2 a3 a4 a5 a6
theorem cc_T_converges_98 {k_post : Int32 → Int32 → List Nat → List Nat → List Nat → List Nat → List Nat → List Nat → Bool} {post : Int32 → St2 → Prop} {k_J30 : Int32 → List Nat → List Nat → List Nat → List Nat → List Nat → List Nat → Bool} {J30 : Int32 → (Nat → Int32) → (Nat → Int32) → (Nat → Int32) → (Nat → Int32) → (Nat → Int32) → (Nat → Int32) → Prop} {k_J40 : Int32 → List Nat → List Nat → List Nat → List Nat → List Nat → List Nat → Bool} {J40 : Int32 → (Nat → Int32) → (Nat → Int32) → (Nat → Int32) → (Nat → Int32) → (Nat → Int32) → (Nat → Int32) → Prop} {x1 : Int32} {x2 : Int32} {f0_count : Int32} {a1 : List Nat} {a2 : List Nat} {a3 : List Nat} {a4 : List Nat} {a5 : List Nat} {a6 : List Nat} (h : cc_converges_98 k_post k_J30 k_J40 x1 x2 f0_count a1 a2 a3 a4 a5 a6 = true) (h_post : ∀ (v0 : Int32) (v1 : Int32) (v2 : List Nat) (v3 : List Nat) (v4 : List Nat) (v5 : List Nat) (v6 : List Nat) (v7 : List Nat), k_post v0 v1 v2 v3 v4 v5 v6 v7 = true → post v0 (v1, cc_F v2, cc_F v3, cc_F v4, cc_F v5, cc_F v6, cc_F v7)) (h_J30 : ∀ (v0 : Int32) (v1 : List Nat) (v2 : List Nat) (v3 : List Nat) (v4 : List Nat) (v5 : List Nat) (v6 : List Nat), k_J30 v0 v1 v2 v3 v4 v5 v6 = true → J30 v0 (cc_F v1) (cc_F v2) (cc_F v3) (cc_F v4) (cc_F v5) (cc_F v6)) (h_J40 : ∀ (v0 : Int32) (v1 : List Nat) (v2 : List Nat) (v3 : List Nat) (v4 : List Nat) (v5 : List Nat) (v6 : List Nat), k_J40 v0 v1 v2 v3 v4 v5 v6 = true → J40 v0 (cc_F v1) (cc_F v2) (cc_F v3) (cc_F v4) (cc_F v5) (cc_F v6)) : wX_converges_98 post J30 J40 x1 x2 f0_count (cc_F a1) (cc_F a2) (cc_F a3) (cc_F a4) (cc_F a5) (cc_F a6) := by
  unfold cc_converges_98 at h
  unfold wX_converges_98
  exact cc_T_converges_99 h h_post h_J30 h_J40
def cc_converges_40 (k_post : Int32 → Int32 → List Nat → List Nat → List Nat → List Nat → List Nat → List Nat → Bool) (k_J30 : Int32 → List Nat → List Nat → List Nat → List Nat → List Nat → List Nat → Bool) (x1 : Int32) (f0_count : Int32) : Nat → Int32 → List Nat → List Nat → List Nat → List Nat → List Nat → List Nat → Bool
  | 0 => fun _ _ _ _ _ _ _ => false
  | n + 1 => fun x2 a1 a2 a3 a4 a5 a6 => cond (cc_le f0_count x2) (cc_f (x1 + 1) (fun x1_29 => k_J30 x1_29 a1 a2 a3 a4 a5 a6)) (cc_in x1 && (cond (cc_eq (cc_F a3 x1.toNatClampNeg) 0) (cc_in x2 && (cond (cc_eq (cc_F a3 x2.toNatClampNeg) 0) (cc_converges_98 k_post k_J30 (cc_converges_40 k_post k_J30 x1 f0_count n) x1 x2 f0_count a1 a2 a3 a4 a5 a6) (cc_in x2 && (cc_in x1 && (cond (cc_eq (cc_F a2 x2.toNatClampNeg) (cc_F a2 x1.toNatClampNeg)) (cc_in x1 && (cond (cc_bit (cc_F a5 x1.toNatClampNeg) x2) (cc_converges_98 k_post k_J30 (cc_converges_40 k_post k_J30 x1 f0_count n) x1 x2 f0_count a1 a2 a3 a4 a5 a6) (cc_converges_99 k_post k_J30 (cc_converges_40 k_post k_J30 x1 f0_count n) x1 x2 1 f0_count a1 a2 a3 a4 a5 a6))) (cc_converges_98 k_post k_J30 (cc_converges_40 k_post k_J30 x1 f0_count n) x1 x2 f0_count a1 a2 a3 a4 a5 a6)))))) (cc_converges_98 k_post k_J30 (cc_converges_40 k_post k_J30 x1 f0_count n) x1 x2 f0_count a1 a2 a3 a4 a5 a6)))
theorem cc_T_converges_40 {k_post : Int32 → Int32 → List Nat → List Nat → List Nat → List Nat → List Nat → List Nat → Bool} {post : Int32 → St2 → Prop} {k_J30 : Int32 → List Nat → List Nat → List Nat → List Nat → List Nat → List Nat → Bool} {J30 : Int32 → (Nat → Int32) → (Nat → Int32) → (Nat → Int32) → (Nat → Int32) → (Nat → Int32) → (Nat → Int32) → Prop} {x1 : Int32} {f0_count : Int32} (h_post : ∀ (v0 : Int32) (v1 : Int32) (v2 : List Nat) (v3 : List Nat) (v4 : List Nat) (v5 : List Nat) (v6 : List Nat) (v7 : List Nat), k_post v0 v1 v2 v3 v4 v5 v6 v7 = true → post v0 (v1, cc_F v2, cc_F v3, cc_F v4, cc_F v5, cc_F v6, cc_F v7)) (h_J30 : ∀ (v0 : Int32) (v1 : List Nat) (v2 : List Nat) (v3 : List Nat) (v4 : List Nat) (v5 : List Nat) (v6 : List Nat), k_J30 v0 v1 v2 v3 v4 v5 v6 = true → J30 v0 (cc_F v1) (cc_F v2) (cc_F v3) (cc_F v4) (cc_F v5) (cc_F v6)) : ∀ (n : Nat) (x2 : Int32) (a1 : List Nat) (a2 : List Nat) (a3 : List Nat) (a4 : List Nat) (a5 : List Nat) (a6 : List Nat), cc_converges_40 k_post k_J30 x1 f0_count n x2 a1 a2 a3 a4 a5 a6 = true → wX_converges_40 post J30 x1 f0_count n x2 (cc_F a1) (cc_F a2) (cc_F a3) (cc_F a4) (cc_F a5) (cc_F a6) := by
  intro n
  induction n with
  | zero => intro x2 a1 a2 a3 a4 a5 a6 h; exact absurd h Bool.false_ne_true
  | succ n ih =>
    intro x2 a1 a2 a3 a4 a5 a6 h
    unfold cc_converges_40 at h
    unfold wX_converges_40
    exact cc_if (cc_le_p _ _) h (fun h => cc_f_p h (fun x1_29 h => h_J30 _ _ _ _ _ _ _ h)) (fun h => cc_in_p h (fun h => cc_if (cc_eq_p _ _) h (fun h => cc_in_p h (fun h => cc_if (cc_eq_p _ _) h (fun h => cc_T_converges_98 h h_post h_J30 ih) (fun h => cc_in_p h (fun h => cc_in_p h (fun h => cc_if (cc_eq_p _ _) h (fun h => cc_in_p h (fun h => cc_if (cc_bit_p _ _) h (fun h => cc_T_converges_98 h h_post h_J30 ih) (fun h => cc_T_converges_99 h h_post h_J30 ih))) (fun h => cc_T_converges_98 h h_post h_J30 ih)))))) (fun h => cc_T_converges_98 h h_post h_J30 ih)))
def cc_converges_30 (k_post : Int32 → Int32 → List Nat → List Nat → List Nat → List Nat → List Nat → List Nat → Bool) (f0_count : Int32) : Nat → Int32 → List Nat → List Nat → List Nat → List Nat → List Nat → List Nat → Bool
  | 0 => fun _ _ _ _ _ _ _ => false
  | n + 1 => fun x1 a1 a2 a3 a4 a5 a6 => cond (cc_le f0_count x1) (cc_converges_162 k_post 61 1 0 f0_count a1 a2 a3 a4 a5 a6) (cc_converges_40 k_post (cc_converges_30 k_post f0_count n) x1 f0_count 9 0 a1 a2 a3 a4 a5 a6)
theorem cc_T_converges_30 {k_post : Int32 → Int32 → List Nat → List Nat → List Nat → List Nat → List Nat → List Nat → Bool} {post : Int32 → St2 → Prop} {f0_count : Int32} (h_post : ∀ (v0 : Int32) (v1 : Int32) (v2 : List Nat) (v3 : List Nat) (v4 : List Nat) (v5 : List Nat) (v6 : List Nat) (v7 : List Nat), k_post v0 v1 v2 v3 v4 v5 v6 v7 = true → post v0 (v1, cc_F v2, cc_F v3, cc_F v4, cc_F v5, cc_F v6, cc_F v7)) : ∀ (n : Nat) (x1 : Int32) (a1 : List Nat) (a2 : List Nat) (a3 : List Nat) (a4 : List Nat) (a5 : List Nat) (a6 : List Nat), cc_converges_30 k_post f0_count n x1 a1 a2 a3 a4 a5 a6 = true → wX_converges_30 post f0_count n x1 (cc_F a1) (cc_F a2) (cc_F a3) (cc_F a4) (cc_F a5) (cc_F a6) := by
  intro n
  induction n with
  | zero => intro x1 a1 a2 a3 a4 a5 a6 h; exact absurd h Bool.false_ne_true
  | succ n ih =>
    intro x1 a1 a2 a3 a4 a5 a6 h
    unfold cc_converges_30 at h
    unfold wX_converges_30
    exact cc_if (cc_le_p _ _) h (fun h => ⟨61, cc_T_converges_162 h_post 61 _ _ _ _ _ _ _ _ _ h⟩) (fun h => ⟨9, cc_T_converges_40 h_post ih 9 _ _ _ _ _ _ _ h⟩)
def cc_converges_2 (k_post : Int32 → Int32 → List Nat → List Nat → List Nat → List Nat → List Nat → List Nat → Bool) (f0_count : Int32) : Nat → Int32 → List Nat → List Nat → List Nat → List Nat → List Nat → List Nat → Bool
  | 0 => fun _ _ _ _ _ _ _ => false
  | n + 1 => fun x1 a1 a2 a3 a4 a5 a6 => cond (cc_le f0_count x1) (cc_converges_30 k_post f0_count 9 0 a1 a2 a3 a4 a5 a6) (cc_in x1 && (cc_in x1 && (cc_s a6 x1.toNatClampNeg (cc_F a5 x1.toNatClampNeg) (fun a6_54 => cc_f (x1 + 1) (fun x1_55 => cc_converges_2 k_post f0_count n x1_55 a1 a2 a3 a4 a5 a6_54)))))
theorem cc_T_converges_2 {k_post : Int32 → Int32 → List Nat → List Nat → List Nat → List Nat → List Nat → List Nat → Bool} {post : Int32 → St2 → Prop} {f0_count : Int32} (h_post : ∀ (v0 : Int32) (v1 : Int32) (v2 : List Nat) (v3 : List Nat) (v4 : List Nat) (v5 : List Nat) (v6 : List Nat) (v7 : List Nat), k_post v0 v1 v2 v3 v4 v5 v6 v7 = true → post v0 (v1, cc_F v2, cc_F v3, cc_F v4, cc_F v5, cc_F v6, cc_F v7)) : ∀ (n : Nat) (x1 : Int32) (a1 : List Nat) (a2 : List Nat) (a3 : List Nat) (a4 : List Nat) (a5 : List Nat) (a6 : List Nat), cc_converges_2 k_post f0_count n x1 a1 a2 a3 a4 a5 a6 = true → wX_converges_2 post f0_count n x1 (cc_F a1) (cc_F a2) (cc_F a3) (cc_F a4) (cc_F a5) (cc_F a6) := by
  intro n
  induction n with
  | zero => intro x1 a1 a2 a3 a4 a5 a6 h; exact absurd h Bool.false_ne_true
  | succ n ih =>
    intro x1 a1 a2 a3 a4 a5 a6 h
    unfold cc_converges_2 at h
    unfold wX_converges_2
    exact cc_if (cc_le_p _ _) h (fun h => ⟨9, cc_T_converges_30 h_post 9 _ _ _ _ _ _ _ h⟩) (fun h => cc_in_p h (fun h => cc_in_p h (fun h => cc_s_p h (fun a6_54 h => cc_f_p h (fun x1_55 h => ih _ _ _ _ _ _ _ h)))))
def cc_p_converges (k_post : Int32 → Int32 → List Nat → List Nat → List Nat → List Nat → List Nat → List Nat → Bool) (f0_count : Int32) (a1 a2 a3 a4 a5 a6 : List Nat) : Bool := cc_converges_2 k_post f0_count 9 0 a1 a2 a3 a4 a5 a6
theorem cc_Tp_converges {k_post : Int32 → Int32 → List Nat → List Nat → List Nat → List Nat → List Nat → List Nat → Bool} {post : Int32 → St2 → Prop} {f0_count : Int32} {a1 a2 a3 a4 a5 a6 : List Nat} (h : cc_p_converges k_post f0_count a1 a2 a3 a4 a5 a6 = true) (h_post : ∀ (v0 : Int32) (v1 : Int32) (v2 : List Nat) (v3 : List Nat) (v4 : List Nat) (v5 : List Nat) (v6 : List Nat) (v7 : List Nat), k_post v0 v1 v2 v3 v4 v5 v6 v7 = true → post v0 (v1, cc_F v2, cc_F v3, cc_F v4, cc_F v5, cc_F v6, cc_F v7)) : wpX_converges post (f0_count, cc_F a1, cc_F a2, cc_F a3, cc_F a4, cc_F a5, cc_F a6) := by
  unfold cc_p_converges at h
  unfold wpX_converges
  try dsimp only
  exact ⟨9, cc_T_converges_2 h_post 9 _ _ _ _ _ _ _ h⟩
def cc_isWeak_63 (k_post : Int32 → Bool) (k_J13 : Int32 → Bool) (x1 : Int32) (x2 : Int32) (z0 : Int32) (f0_count : Int32) (a1 : List Nat) (a2 : List Nat) (a3 : List Nat) (a4 : List Nat) (a5 : List Nat) (a6 : List Nat) : Bool := cond (cc_eq z0 0) (cc_f (x2 + 1) (fun x2_7 => k_J13 x2_7)) (cc_in x1 && (cond (cc_lt (cc_F a4 x1.toNatClampNeg) 0) (k_post 0) (cc_in x2 && (cc_in x1 && (cond (cc_bit (cc_F a5 x2.toNatClampNeg) (cc_F a4 x1.toNatClampNeg)) (cc_f (x2 + 1) (fun x2_13 => k_J13 x2_13)) (k_post 0))))))
theorem cc_T_isWeak_63 {k_post : Int32 → Bool} {post : Int32 → Prop} {k_J13 : Int32 → Bool} {J13 : Int32 → Prop} {x1 : Int32} {x2 : Int32} {z0 : Int32} {f0_count : Int32} {a1 : List Nat} {a2 : List Nat} {a3 : List Nat} {a4 : List Nat} {a5 : List Nat} {a6 : List Nat} (h : cc_isWeak_63 k_post k_J13 x1 x2 z0 f0_count a1 a2 a3 a4 a5 a6 = true) (h_post : ∀ (v0 : Int32), k_post v0 = true → post v0) (h_J13 : ∀ (v0 : Int32), k_J13 v0 = true → J13 v0) : wX_isWeak_63 post J13 x1 x2 z0 f0_count (cc_F a1) (cc_F a2) (cc_F a3) (cc_F a4) (cc_F a5) (cc_F a6) := by
  unfold cc_isWeak_63 at h
  unfold wX_isWeak_63
  exact cc_if (cc_eq_p _ _) h (fun h => cc_f_p h (fun x2_7 h => h_J13 _ h)) (fun h => cc_in_p h (fun h => cc_if (cc_lt_p _ _) h (fun h => h_post _ h) (fun h => cc_in_p h (fun h => cc_in_p h (fun h => cc_if (cc_bit_p _ _) h (fun h => cc_f_p h (fun x2_13 h => h_J13 _ h)) (fun h => h_post _ h))))))
def cc_isWeak_62 (k_post : Int32 → Bool) (k_J13 : Int32 → Bool) (x1 : Int32) (x2 : Int32) (f0_count : Int32) (a1 : List Nat) (a2 : List Nat) (a3 : List Nat) (a4 : List Nat) (a5 : List Nat) (a6 : List Nat) : Bool := cc_isWeak_63 k_post k_J13 x1 x2 0 f0_count a1 a2 a3 a4 a5 a6
theorem cc_T_isWeak_62 {k_post : Int32 → Bool} {post : Int32 → Prop} {k_J13 : Int32 → Bool} {J13 : Int32 → Prop} {x1 : Int32} {x2 : Int32} {f0_count : Int32} {a1 : List Nat} {a2 : List Nat} {a3 : List Nat} {a4 : List Nat} {a5 : List Nat} {a6 : List Nat} (h : cc_isWeak_62 k_post k_J13 x1 x2 f0_count a1 a2 a3 a4 a5 a6 = true) (h_post : ∀ (v0 : Int32), k_post v0 = true → post v0) (h_J13 : ∀ (v0 : Int32), k_J13 v0 = true → J13 v0) : wX_isWeak_62 post J13 x1 x2 f0_count (cc_F a1) (cc_F a2) (cc_F a3) (cc_F a4) (cc_F a5) (cc_F a6) := by
  unfold cc_isWeak_62 at h
  unfold wX_isWeak_62
  exact cc_T_isWeak_63 h h_post h_J13
def cc_isWeak_13 (k_post : Int32 → Bool) (x1 : Int32) (f0_count : Int32) (a1 : List Nat) (a2 : List Nat) (a3 : List Nat) (a4 : List Nat) (a5 : List Nat) (a6 : List Nat) : Nat → Int32 → Bool
  | 0 => fun _ => false
  | n + 1 => fun x2 => cond (cc_le f0_count x2) (k_post 1) (cc_in x2 && (cond (cc_eq (cc_F a3 x2.toNatClampNeg) 0) (cc_isWeak_62 k_post (cc_isWeak_13 k_post x1 f0_count a1 a2 a3 a4 a5 a6 n) x1 x2 f0_count a1 a2 a3 a4 a5 a6) (cc_in x2 && (cc_in x1 && (cond (cc_eq (cc_F a2 x2.toNatClampNeg) (cc_F a2 x1.toNatClampNeg)) (cc_in x1 && (cond (cc_bit (cc_F a5 x1.toNatClampNeg) x2) (cc_isWeak_62 k_post (cc_isWeak_13 k_post x1 f0_count a1 a2 a3 a4 a5 a6 n) x1 x2 f0_count a1 a2 a3 a4 a5 a6) (cc_isWeak_63 k_post (cc_isWeak_13 k_post x1 f0_count a1 a2 a3 a4 a5 a6 n) x1 x2 1 f0_count a1 a2 a3 a4 a5 a6))) (cc_isWeak_62 k_post (cc_isWeak_13 k_post x1 f0_count a1 a2 a3 a4 a5 a6 n) x1 x2 f0_count a1 a2 a3 a4 a5 a6))))))
theorem cc_T_isWeak_13 {k_post : Int32 → Bool} {post : Int32 → Prop} {x1 : Int32} {f0_count : Int32} {a1 : List Nat} {a2 : List Nat} {a3 : List Nat} {a4 : List Nat} {a5 : List Nat} {a6 : List Nat} (h_post : ∀ (v0 : Int32), k_post v0 = true → post v0) : ∀ (n : Nat) (x2 : Int32), cc_isWeak_13 k_post x1 f0_count a1 a2 a3 a4 a5 a6 n x2 = true → wX_isWeak_13 post x1 f0_count (cc_F a1) (cc_F a2) (cc_F a3) (cc_F a4) (cc_F a5) (cc_F a6) n x2 := by
  intro n
  induction n with
  | zero => intro x2 h; exact absurd h Bool.false_ne_true
  | succ n ih =>
    intro x2 h
    unfold cc_isWeak_13 at h
    unfold wX_isWeak_13
    exact cc_if (cc_le_p _ _) h (fun h => h_post _ h) (fun h => cc_in_p h (fun h => cc_if (cc_eq_p _ _) h (fun h => cc_T_isWeak_62 h h_post ih) (fun h => cc_in_p h (fun h => cc_in_p h (fun h => cc_if (cc_eq_p _ _) h (fun h => cc_in_p h (fun h => cc_if (cc_bit_p _ _) h (fun h => cc_T_isWeak_62 h h_post ih) (fun h => cc_T_isWeak_63 h h_post ih))) (fun h => cc_T_isWeak_62 h h_post ih))))))
def cc_p_isWeak (k_post : Int32 → Bool) (f0_count : Int32) (a1 a2 a3 a4 a5 a6 : List Nat) (p0 : Int32) : Bool := cc_in p0 && (cond (cc_eq (cc_F a3 p0.toNatClampNeg) 0) (cc_isWeak_13 k_post p0 f0_count a1 a2 a3 a4 a5 a6 9 0) (k_post 1))
theorem cc_Tp_isWeak {k_post : Int32 → Bool} {post : Int32 → Prop} {f0_count : Int32} {a1 a2 a3 a4 a5 a6 : List Nat} {p0 : Int32} (h : cc_p_isWeak k_post f0_count a1 a2 a3 a4 a5 a6 p0 = true) (h_post : ∀ (v0 : Int32), k_post v0 = true → post v0) : wpX_isWeak post (f0_count, cc_F a1, cc_F a2, cc_F a3, cc_F a4, cc_F a5, cc_F a6) p0 := by
  unfold cc_p_isWeak at h
  unfold wpX_isWeak
  try dsimp only
  exact cc_in_p h (fun h => cc_if (cc_eq_p _ _) h (fun h => ⟨9, cc_T_isWeak_13 h_post 9 _ h⟩) (fun h => h_post _ h))
def cc_comesTooLate_115 (k_post : Int32 → Bool) (k_J2 : Int32 → Bool) (k_J61 : Int32 → Bool) (x1 : Int32) (x2 : Int32) (x3 : Int32) (x4 : Int32) (x5 : Int32) (z0 : Int32) (f0_count : Int32) (a1 : List Nat) (a2 : List Nat) (a3 : List Nat) (a4 : List Nat) (a5 : List Nat) (a6 : List Nat) : Bool := cond (cc_eq x4 0) (cc_f (x5 + 1) (fun x5_8 => k_J61 x5_8)) (cond (cc_eq z0 0) (cc_f (x5 + 1) (fun x5_10 => k_J61 x5_10)) (k_post 1))
theorem cc_T_comesTooLate_115 {k_post : Int32 → Bool} {post : Int32 → Prop} {k_J2 : Int32 → Bool} {J2 : Int32 → Prop} {k_J61 : Int32 → Bool} {J61 : Int32 → Prop} {x1 : Int32} {x2 : Int32} {x3 : Int32} {x4 : Int32} {x5 : Int32} {z0 : Int32} {f0_count : Int32} {a1 : List Nat} {a2 : List Nat} {a3 : List Nat} {a4 : List Nat} {a5 : List Nat} {a6 : List Nat} (h : cc_comesTooLate_115 k_post k_J2 k_J61 x1 x2 x3 x4 x5 z0 f0_count a1 a2 a3 a4 a5 a6 = true) (h_post : ∀ (v0 : Int32), k_post v0 = true → post v0) (h_J2 : ∀ (v0 : Int32), k_J2 v0 = true → J2 v0) (h_J61 : ∀ (v0 : Int32), k_J61 v0 = true → J61 v0) : wX_comesTooLate_115 post J2 J61 x1 x2 x3 x4 x5 z0 f0_count (cc_F a1) (cc_F a2) (cc_F a3) (cc_F a4) (cc_F a5) (cc_F a6) := by
  unfold cc_comesTooLate_115 at h
  unfold wX_comesTooLate_115
  exact cc_if (cc_eq_p _ _) h (fun h => cc_f_p h (fun x5_8 h => h_J61 _ h)) (fun h => cc_if (cc_eq_p _ _) h (fun h => cc_f_p h (fun x5_10 h => h_J61 _ h)) (fun h => h_post _ h))
def cc_comesTooLate_114 (k_post : Int32 → Bool) (k_J2 : Int32 → Bool) (k_J61 : Int32 → Bool) (x1 : Int32) (x2 : Int32) (x3 : Int32) (x4 : Int32) (x5 : Int32) (f0_count : Int32) (a1 : List Nat) (a2 : List Nat) (a3 : List Nat) (a4 : List Nat) (a5 : List Nat) (a6 : List Nat) : Bool := cc_comesTooLate_115 k_post k_J2 k_J61 x1 x2 x3 x4 x5 0 f0_count a1 a2 a3 a4 a5 a6
theorem cc_T_comesTooLate_114 {k_post : Int32 → Bool} {post : Int32 → Prop} {k_J2 : Int32 → Bool} {J2 : Int32 → Prop} {k_J61 : Int32 → Bool} {J61 : Int32 → Prop} {x1 : Int32} {x2 : Int32} {x3 : Int32} {x4 : Int32} {x5 : Int32} {f0_count : Int32} {a1 : List Nat} {a2 : List Nat} {a3 : List Nat} {a4 : List Nat} {a5 : List Nat} {a6 : List Nat} (h : cc_comesTooLate_114 k_post k_J2 k_J61 x1 x2 x3 x4 x5 f0_count a1 a2 a3 a4 a5 a6 = true) (h_post : ∀ (v0 : Int32), k_post v0 = true → post v0) (h_J2 : ∀ (v0 : Int32), k_J2 v0 = true → J2 v0) (h_J61 : ∀ (v0 : Int32), k_J61 v0 = true → J61 v0) : wX_comesTooLate_114 post J2 J61 x1 x2 x3 x4 x5 f0_count (cc_F a1) (cc_F a2) (cc_F a3) (cc_F a4) (cc_F a5) (cc_F a6) := by
  unfold cc_comesTooLate_114 at h
  unfold wX_comesTooLate_114
  exact cc_T_comesTooLate_115 h h_post h_J2 h_J61
def cc_comesTooLate_61 (k_post : Int32 → Bool) (k_J2 : Int32 → Bool) (x1 : Int32) (x2 : Int32) (x3 : Int32) (x4 : Int32) (f0_count : Int32) (a1 : List Nat) (a2 : List Nat) (a3 : List Nat) (a4 : List Nat) (a5 : List Nat) (a6 : List Nat) : Nat → Int32 → Bool
  | 0 => fun _ => false
  | n + 1 => fun x5 => cond (cc_le f0_count x5) (cc_f (x3 + 1) (fun x3_4 => k_J2 x3_4)) (cc_in x5 && (cond (cc_eq (cc_F a3 x5.toNatClampNeg) 0) (cc_comesTooLate_114 k_post k_J2 (cc_comesTooLate_61 k_post k_J2 x1 x2 x3 x4 f0_count a1 a2 a3 a4 a5 a6 n) x1 x2 x3 x4 x5 f0_count a1 a2 a3 a4 a5 a6) (cc_in x5 && (cc_in x3 && (cond (cc_eq (cc_F a2 x5.toNatClampNeg) (cc_F a2 x3.toNatClampNeg)) (cc_in x3 && (cond (cc_bit (cc_F a6 x3.toNatClampNeg) x5) (cc_comesTooLate_114 k_post k_J2 (cc_comesTooLate_61 k_post k_J2 x1 x2 x3 x4 f0_count a1 a2 a3 a4 a5 a6 n) x1 x2 x3 x4 x5 f0_count a1 a2 a3 a4 a5 a6) (cc_comesTooLate_115 k_post k_J2 (cc_comesTooLate_61 k_post k_J2 x1 x2 x3 x4 f0_count a1 a2 a3 a4 a5 a6 n) x1 x2 x3 x4 x5 1 f0_count a1 a2 a3 a4 a5 a6))) (cc_comesTooLate_114 k_post k_J2 (cc_comesTooLate_61 k_post k_J2 x1 x2 x3 x4 f0_count a1 a2 a3 a4 a5 a6 n) x1 x2 x3 x4 x5 f0_count a1 a2 a3 a4 a5 a6))))))
theorem cc_T_comesTooLate_61 {k_post : Int32 → Bool} {post : Int32 → Prop} {k_J2 : Int32 → Bool} {J2 : Int32 → Prop} {x1 : Int32} {x2 : Int32} {x3 : Int32} {x4 : Int32} {f0_count : Int32} {a1 : List Nat} {a2 : List Nat} {a3 : List Nat} {a4 : List Nat} {a5 : List Nat} {a6 : List Nat} (h_post : ∀ (v0 : Int32), k_post v0 = true → post v0) (h_J2 : ∀ (v0 : Int32), k_J2 v0 = true → J2 v0) : ∀ (n : Nat) (x5 : Int32), cc_comesTooLate_61 k_post k_J2 x1 x2 x3 x4 f0_count a1 a2 a3 a4 a5 a6 n x5 = true → wX_comesTooLate_61 post J2 x1 x2 x3 x4 f0_count (cc_F a1) (cc_F a2) (cc_F a3) (cc_F a4) (cc_F a5) (cc_F a6) n x5 := by
  intro n
  induction n with
  | zero => intro x5 h; exact absurd h Bool.false_ne_true
  | succ n ih =>
    intro x5 h
    unfold cc_comesTooLate_61 at h
    unfold wX_comesTooLate_61
    exact cc_if (cc_le_p _ _) h (fun h => cc_f_p h (fun x3_4 h => h_J2 _ h)) (fun h => cc_in_p h (fun h => cc_if (cc_eq_p _ _) h (fun h => cc_T_comesTooLate_114 h h_post h_J2 ih) (fun h => cc_in_p h (fun h => cc_in_p h (fun h => cc_if (cc_eq_p _ _) h (fun h => cc_in_p h (fun h => cc_if (cc_bit_p _ _) h (fun h => cc_T_comesTooLate_114 h h_post h_J2 ih) (fun h => cc_T_comesTooLate_115 h h_post h_J2 ih))) (fun h => cc_T_comesTooLate_114 h h_post h_J2 ih))))))
def cc_comesTooLate_2 (k_post : Int32 → Bool) (x1 : Int32) (x2 : Int32) (f0_count : Int32) (a1 : List Nat) (a2 : List Nat) (a3 : List Nat) (a4 : List Nat) (a5 : List Nat) (a6 : List Nat) : Nat → Int32 → Bool
  | 0 => fun _ => false
  | n + 1 => fun x3 => cond (cc_le f0_count x3) (k_post 0) (cond (cc_bit x2 x3) (cc_comesTooLate_61 k_post (cc_comesTooLate_2 k_post x1 x2 f0_count a1 a2 a3 a4 a5 a6 n) x1 x2 x3 0 f0_count a1 a2 a3 a4 a5 a6 9 0) (cc_in x3 && (cond (cc_eq (cc_F a3 x3.toNatClampNeg) 0) (cc_in x3 && (cc_in x1 && (cond (cc_eq (cc_F a1 x3.toNatClampNeg) (cc_F a1 x1.toNatClampNeg)) (cc_in x3 && (cond (cc_le 0 (cc_F a4 x3.toNatClampNeg)) (cc_comesTooLate_61 k_post (cc_comesTooLate_2 k_post x1 x2 f0_count a1 a2 a3 a4 a5 a6 n) x1 x2 x3 0 f0_count a1 a2 a3 a4 a5 a6 9 0) (cc_comesTooLate_61 k_post (cc_comesTooLate_2 k_post x1 x2 f0_count a1 a2 a3 a4 a5 a6 n) x1 x2 x3 1 f0_count a1 a2 a3 a4 a5 a6 9 0))) (cc_comesTooLate_61 k_post (cc_comesTooLate_2 k_post x1 x2 f0_count a1 a2 a3 a4 a5 a6 n) x1 x2 x3 0 f0_count a1 a2 a3 a4 a5 a6 9 0)))) (cc_comesTooLate_61 k_post (cc_comesTooLate_2 k_post x1 x2 f0_count a1 a2 a3 a4 a5 a6 n) x1 x2 x3 0 f0_count a1 a2 a3 a4 a5 a6 9 0))))
theorem cc_T_comesTooLate_2 {k_post : Int32 → Bool} {post : Int32 → Prop} {x1 : Int32} {x2 : Int32} {f0_count : Int32} {a1 : List Nat} {a2 : List Nat} {a3 : List Nat} {a4 : List Nat} {a5 : List Nat} {a6 : List Nat} (h_post : ∀ (v0 : Int32), k_post v0 = true → post v0) : ∀ (n : Nat) (x3 : Int32), cc_comesTooLate_2 k_post x1 x2 f0_count a1 a2 a3 a4 a5 a6 n x3 = true → wX_comesTooLate_2 post x1 x2 f0_count (cc_F a1) (cc_F a2) (cc_F a3) (cc_F a4) (cc_F a5) (cc_F a6) n x3 := by
  intro n
  induction n with
  | zero => intro x3 h; exact absurd h Bool.false_ne_true
  | succ n ih =>
    intro x3 h
    unfold cc_comesTooLate_2 at h
    unfold wX_comesTooLate_2
    exact cc_if (cc_le_p _ _) h (fun h => h_post _ h) (fun h => cc_if (cc_bit_p _ _) h (fun h => ⟨9, cc_T_comesTooLate_61 h_post ih 9 _ h⟩) (fun h => cc_in_p h (fun h => cc_if (cc_eq_p _ _) h (fun h => cc_in_p h (fun h => cc_in_p h (fun h => cc_if (cc_eq_p _ _) h (fun h => cc_in_p h (fun h => cc_if (cc_le_p _ _) h (fun h => ⟨9, cc_T_comesTooLate_61 h_post ih 9 _ h⟩) (fun h => ⟨9, cc_T_comesTooLate_61 h_post ih 9 _ h⟩))) (fun h => ⟨9, cc_T_comesTooLate_61 h_post ih 9 _ h⟩)))) (fun h => ⟨9, cc_T_comesTooLate_61 h_post ih 9 _ h⟩))))
def cc_p_comesTooLate (k_post : Int32 → Bool) (f0_count : Int32) (a1 a2 a3 a4 a5 a6 : List Nat) (p0 : Int32) (p1 : Int32) : Bool := cc_comesTooLate_2 k_post p0 p1 f0_count a1 a2 a3 a4 a5 a6 9 0
theorem cc_Tp_comesTooLate {k_post : Int32 → Bool} {post : Int32 → Prop} {f0_count : Int32} {a1 a2 a3 a4 a5 a6 : List Nat} {p0 : Int32} {p1 : Int32} (h : cc_p_comesTooLate k_post f0_count a1 a2 a3 a4 a5 a6 p0 p1 = true) (h_post : ∀ (v0 : Int32), k_post v0 = true → post v0) : wpX_comesTooLate post (f0_count, cc_F a1, cc_F a2, cc_F a3, cc_F a4, cc_F a5, cc_F a6) p0 p1 := by
  unfold cc_p_comesTooLate at h
  unfold wpX_comesTooLate
  try dsimp only
  exact ⟨9, cc_T_comesTooLate_2 h_post 9 _ h⟩
def cc_pushBefore_73 (k_post : Int32 → Int32 → List Nat → List Nat → List Nat → List Nat → List Nat → List Nat → Bool) (k_J18 : Int32 → List Nat → List Nat → List Nat → List Nat → List Nat → List Nat → Bool) (x1 : Int32) (x2 : Int32) (x3 : Int32) (x4 : Int32) (x5 : Int32) (z0 : Int32) (f0_count : Int32) (a1 : List Nat) (a2 : List Nat) (a3 : List Nat) (a4 : List Nat) (a5 : List Nat) (a6 : List Nat) : Bool := cond (cc_eq z0 0) (cc_f (x5 + 1) (fun x5_10 => k_J18 x5_10 a1 a2 a3 a4 a5 a6)) (cc_in x1 && (cond (cc_bit (cc_F a6 x1.toNatClampNeg) x5) (cc_f (x5 + 1) (fun x5_13 => k_J18 x5_13 a1 a2 a3 a4 a5 a6)) (cc_in x3 && (cc_in x3 && (cc_s a6 x3.toNatClampNeg ((cc_F a6 x3.toNatClampNeg) ||| ((1 : Int32) <<< (x5 &&& 31))) (fun a6_16 => cc_f (x5 + 1) (fun x5_17 => k_J18 x5_17 a1 a2 a3 a4 a5 a6_16)))))))
theorem cc_T_pushBefore_73 {k_post : Int32 → Int32 → List Nat → List Nat → List Nat → List Nat → List Nat → List Nat → Bool} {post : Int32 → St2 → Prop} {k_J18 : Int32 → List Nat → List Nat → List Nat → List Nat → List Nat → List Nat → Bool} {J18 : Int32 → (Nat → Int32) → (Nat → Int32) → (Nat → Int32) → (Nat → Int32) → (Nat → Int32) → (Nat → Int32) → Prop} {x1 : Int32} {x2 : Int32} {x3 : Int32} {x4 : Int32} {x5 : Int32} {z0 : Int32} {f0_count : Int32} {a1 : List Nat} {a2 : List Nat} {a3 : List Nat} {a4 : List Nat} {a5 : List Nat} {a6 : List Nat} (h : cc_pushBefore_73 k_post k_J18 x1 x2 x3 x4 x5 z0 f0_count a1 a2 a3 a4 a5 a6 = true) (h_post : ∀ (v0 : Int32) (v1 : Int32) (v2 : List Nat) (v3 : List Nat) (v4 : List Nat) (v5 : List Nat) (v6 : List Nat) (v7 : List Nat), k_post v0 v1 v2 v3 v4 v5 v6 v7 = true → post v0 (v1, cc_F v2, cc_F v3, cc_F v4, cc_F v5, cc_F v6, cc_F v7)) (h_J18 : ∀ (v0 : Int32) (v1 : List Nat) (v2 : List Nat) (v3 : List Nat) (v4 : List Nat) (v5 : List Nat) (v6 : List Nat), k_J18 v0 v1 v2 v3 v4 v5 v6 = true → J18 v0 (cc_F v1) (cc_F v2) (cc_F v3) (cc_F v4) (cc_F v5) (cc_F v6)) : wX_pushBefore_73 post J18 x1 x2 x3 x4 x5 z0 f0_count (cc_F a1) (cc_F a2) (cc_F a3) (cc_F a4) (cc_F a5) (cc_F a6) := by
  unfold cc_pushBefore_73 at h
  unfold wX_pushBefore_73
  exact cc_if (cc_eq_p _ _) h (fun h => cc_f_p h (fun x5_10 h => h_J18 _ _ _ _ _ _ _ h)) (fun h => cc_in_p h (fun h => cc_if (cc_bit_p _ _) h (fun h => cc_f_p h (fun x5_13 h => h_J18 _ _ _ _ _ _ _ h)) (fun h => cc_in_p h (fun h => cc_in_p h (fun h => cc_s_p h (fun a6_16 h => cc_f_p h (fun x5_17 h => h_J18 _ _ _ _ _ _ _ h)))))))
def cc_pushBefore_72 (k_post : Int32 → Int32 → List Nat → List Nat → List Nat → List Nat → List Nat → List Nat → Bool) (k_J18 : Int32 → List Nat → List Nat → List Nat → List Nat → List Nat → List Nat → Bool) (x1 : Int32) (x2 : Int32) (x3 : Int32) (x4 : Int32) (x5 : Int32) (f0_count : Int32) (a1 : List Nat) (a2 : List Nat) (a3 : List Nat) (a4 : List Nat) (a5 : List Nat) (a6 : List Nat) : Bool := cc_pushBefore_73 k_post k_J18 x1 x2 x3 x4 x5 0 f0_count a1 a2 a3 a4 a5 a6
theorem cc_T_pushBefore_72 {k_post : Int32 → Int32 → List Nat → List Nat → List Nat → List Nat → List Nat → List Nat → Bool} {post : Int32 → St2 → Prop} {k_J18 : Int32 → List Nat → List Nat → List Nat → List Nat → List Nat → List Nat → Bool} {J18 : Int32 → (Nat → Int32) → (Nat → Int32) → (Nat → Int32) → (Nat → Int32) → (Nat → Int32) → (Nat → Int32) → Prop} {x1 : Int32} {x2 : Int32} {x3 : Int32} {x4 : Int32} {x5 : Int32} {f0_count : Int32} {a1 : List Nat} {a2 : List Nat} {a3 : List Nat} {a4 : List Nat} {a5 : List Nat} {a6 : List Nat} (h : cc_pushBefore_72 k_post k_J18 x1 x2 x3 x4 x5 f0_count a1 a2 a3 a4 a5 a6 = true) (h_post : ∀ (v0 : Int32) (v1 : Int32) (v2 : List Nat) (v3 : List Nat) (v4 : List Nat) (v5 : List Nat) (v6 : List Nat) (v7 : List Nat), k_post v0 v1 v2 v3 v4 v5 v6 v7 = true → post v0 (v1, cc_F v2, cc_F v3, cc_F v4, cc_F v5, cc_F v6, cc_F v7)) (h_J18 : ∀ (v0 : Int32) (v1 : List Nat) (v2 : List Nat) (v3 : List Nat) (v4 : List Nat) (v5 : List Nat) (v6 : List Nat), k_J18 v0 v1 v2 v3 v4 v5 v6 = true → J18 v0 (cc_F v1) (cc_F v2) (cc_F v3) (cc_F v4) (cc_F v5) (cc_F v6)) : wX_pushBefore_72 post J18 x1 x2 x3 x4 x5 f0_count (cc_F a1) (cc_F a2) (cc_F a3) (cc_F a4) (cc_F a5) (cc_F a6) := by
  unfold cc_pushBefore_72 at h
  unfold wX_pushBefore_72
  exact cc_T_pushBefore_73 h h_post h_J18
def cc_pushBefore_18 (k_post : Int32 → Int32 → List Nat → List Nat → List Nat → List Nat → List Nat → List Nat → Bool) (x1 : Int32) (x2 : Int32) (x3 : Int32) (x4 : Int32) (f0_count : Int32) : Nat → Int32 → List Nat → List Nat → List Nat → List Nat → List Nat → List Nat → Bool
  | 0 => fun _ _ _ _ _ _ _ => false
  | n + 1 => fun x5 a1 a2 a3 a4 a5 a6 => cond (cc_le f0_count x5) (cc_in x3 && (cond (cc_eq (cc_F a6 x3.toNatClampNeg) x4) (k_post 0 f0_count a1 a2 a3 a4 a5 a6) (k_post 1 f0_count a1 a2 a3 a4 a5 a6))) (cond (cc_eq x5 x3) (cc_pushBefore_72 k_post (cc_pushBefore_18 k_post x1 x2 x3 x4 f0_count n) x1 x2 x3 x4 x5 f0_count a1 a2 a3 a4 a5 a6) (cc_in x5 && (cond (cc_eq (cc_F a3 x5.toNatClampNeg) 0) (cc_pushBefore_72 k_post (cc_pushBefore_18 k_post x1 x2 x3 x4 f0_count n) x1 x2 x3 x4 x5 f0_count a1 a2 a3 a4 a5 a6) (cc_in x5 && (cc_in x1 && (cond (cc_eq (cc_F a2 x5.toNatClampNeg) (cc_F a2 x1.toNatClampNeg)) (cond (cc_bit x2 x5) (cc_pushBefore_72 k_post (cc_pushBefore_18 k_post x1 x2 x3 x4 f0_count n) x1 x2 x3 x4 x5 f0_count a1 a2 a3 a4 a5 a6) (cc_pushBefore_73 k_post (cc_pushBefore_18 k_post x1 x2 x3 x4 f0_count n) x1 x2 x3 x4 x5 1 f0_count a1 a2 a3 a4 a5 a6)) (cc_pushBefore_72 k_post (cc_pushBefore_18 k_post x1 x2 x3 x4 f0_count n) x1 x2 x3 x4 x5 f0_count a1 a2 a3 a4 a5 a6)))))))
theorem cc_T_pushBefore_18 {k_post : Int32 → Int32 → List Nat → List Nat → List Nat → List Nat → List Nat → List Nat → Bool} {post : Int32 → St2 → Prop} {x1 : Int32} {x2 : Int32} {x3 : Int32} {x4 : Int32} {f0_count : Int32} (h_post : ∀ (v0 : Int32) (v1 : Int32) (v2 : List Nat) (v3 : List Nat) (v4 : List Nat) (v5 : List Nat) (v6 : List Nat) (v7 : List Nat), k_post v0 v1 v2 v3 v4 v5 v6 v7 = true → post v0 (v1, cc_F v2, cc_F v3, cc_F v4, cc_F v5, cc_F v6, cc_F v7)) : ∀ (n : Nat) (x5 : Int32) (a1 : List Nat) (a2 : List Nat) (a3 : List Nat) (a4 : List Nat) (a5 : List Nat) (a6 : List Nat), cc_pushBefore_18 k_post x1 x2 x3 x4 f0_count n x5 a1 a2 a3 a4 a5 a6 = true → wX_pushBefore_18 post x1 x2 x3 x4 f0_count n x5 (cc_F a1) (cc_F a2) (cc_F a3) (cc_F a4) (cc_F a5) (cc_F a6) := by
  intro n
  induction n with
  | zero => intro x5 a1 a2 a3 a4 a5 a6 h; exact absurd h Bool.false_ne_true
  | succ n ih =>
    intro x5 a1 a2 a3 a4 a5 a6 h
    unfold cc_pushBefore_18 at h
    unfold wX_pushBefore_18
    exact cc_if (cc_le_p _ _) h (fun h => cc_in_p h (fun h => cc_if (cc_eq_p _ _) h (fun h => h_post _ _ _ _ _ _ _ _ h) (fun h => h_post _ _ _ _ _ _ _ _ h))) (fun h => cc_if (cc_eq_p _ _) h (fun h => cc_T_pushBefore_72 h h_post ih) (fun h => cc_in_p h (fun h => cc_if (cc_eq_p _ _) h (fun h => cc_T_pushBefore_72 h h_post ih) (fun h => cc_in_p h (fun h => cc_in_p h (fun h => cc_if (cc_eq_p _ _) h (fun h => cc_if (cc_bit_p _ _) h (fun h => cc_T_pushBefore_72 h h_post ih) (fun h => cc_T_pushBefore_73 h h_post ih)) (fun h => cc_T_pushBefore_72 h h_post ih)))))))
def cc_p_pushBefore (k_post : Int32 → Int32 → List Nat → List Nat → List Nat → List Nat → List Nat → List Nat → Bool) (f0_count : Int32) (a1 a2 a3 a4 a5 a6 : List Nat) (p0 : Int32) (p1 : Int32) : Bool := cc_in p0 && (cc_f (cc_F a4 p0.toNatClampNeg) (fun x3_2 => cc_in x3_2 && (cc_f (cc_F a6 x3_2.toNatClampNeg) (fun x4_4 => cc_pushBefore_18 k_post p0 p1 x3_2 x4_4 f0_count 9 0 a1 a2 a3 a4 a5 a6))))
theorem cc_Tp_pushBefore {k_post : Int32 → Int32 → List Nat → List Nat → List Nat → List Nat → List Nat → List Nat → Bool} {post : Int32 → St2 → Prop} {f0_count : Int32} {a1 a2 a3 a4 a5 a6 : List Nat} {p0 : Int32} {p1 : Int32} (h : cc_p_pushBefore k_post f0_count a1 a2 a3 a4 a5 a6 p0 p1 = true) (h_post : ∀ (v0 : Int32) (v1 : Int32) (v2 : List Nat) (v3 : List Nat) (v4 : List Nat) (v5 : List Nat) (v6 : List Nat) (v7 : List Nat), k_post v0 v1 v2 v3 v4 v5 v6 v7 = true → post v0 (v1, cc_F v2, cc_F v3, cc_F v4, cc_F v5, cc_F v6, cc_F v7)) : wpX_pushBefore post (f0_count, cc_F a1, cc_F a2, cc_F a3, cc_F a4, cc_F a5, cc_F a6) p0 p1 := by
  unfold cc_p_pushBefore at h
  unfold wpX_pushBefore
  try dsimp only
  exact cc_in_p h (fun h => cc_f_p h (fun x3_2 h => cc_in_p h (fun h => cc_f_p h (fun x4_4 h => ⟨9, cc_T_pushBefore_18 h_post 9 _ _ _ _ _ _ _ h⟩))))
def cc_isStrong_176 (k_post : Int32 → Int32 → List Nat → List Nat → List Nat → List Nat → List Nat → List Nat → Bool) (x1 : Int32) (x2 : Int32) (f0_count : Int32) (a1 : List Nat) (a2 : List Nat) (a3 : List Nat) (a4 : List Nat) (a5 : List Nat) (a6 : List Nat) : Bool := cc_p_hasRing (fun r_5 => cond (cc_eq r_5 0) (cc_p_comesTooLate (fun r_7 => cond (cc_eq r_7 0) (k_post 1 f0_count a1 a2 a3 a4 a5 a6) (k_post 0 f0_count a1 a2 a3 a4 a5 a6)) f0_count a1 a2 a3 a4 a5 a6 x1 x2) (k_post 0 f0_count a1 a2 a3 a4 a5 a6)) f0_count a1 a2 a3 a4 a5 a6
theorem cc_T_isStrong_176 {k_post : Int32 → Int32 → List Nat → List Nat → List Nat → List Nat → List Nat → List Nat → Bool} {post : Int32 → St2 → Prop} {x1 : Int32} {x2 : Int32} {f0_count : Int32} {a1 : List Nat} {a2 : List Nat} {a3 : List Nat} {a4 : List Nat} {a5 : List Nat} {a6 : List Nat} (h : cc_isStrong_176 k_post x1 x2 f0_count a1 a2 a3 a4 a5 a6 = true) (h_post : ∀ (v0 : Int32) (v1 : Int32) (v2 : List Nat) (v3 : List Nat) (v4 : List Nat) (v5 : List Nat) (v6 : List Nat) (v7 : List Nat), k_post v0 v1 v2 v3 v4 v5 v6 v7 = true → post v0 (v1, cc_F v2, cc_F v3, cc_F v4, cc_F v5, cc_F v6, cc_F v7)) : wX_isStrong_176 post x1 x2 f0_count (cc_F a1) (cc_F a2) (cc_F a3) (cc_F a4) (cc_F a5) (cc_F a6) := by
  unfold cc_isStrong_176 at h
  unfold wX_isStrong_176
  exact cc_Tp_hasRing h (fun r_5 h => cc_if (cc_eq_p _ _) h (fun h => cc_Tp_comesTooLate h (fun r_7 h => cc_if (cc_eq_p _ _) h (fun h => h_post _ _ _ _ _ _ _ _ h) (fun h => h_post _ _ _ _ _ _ _ _ h))) (fun h => h_post _ _ _ _ _ _ _ _ h))
def cc_isStrong_109 (k_post : Int32 → Int32 → List Nat → List Nat → List Nat → List Nat → List Nat → List Nat → Bool) (k_J44 : Int32 → Int32 → Int32 → List Nat → List Nat → List Nat → List Nat → List Nat → List Nat → Bool) (k_J60 : Int32 → Int32 → Int32 → List Nat → List Nat → List Nat → List Nat → List Nat → List Nat → Bool) (x1 : Int32) (x2 : Int32) (x3 : Int32) (x4 : Int32) (x5 : Int32) (z0 : Int32) (f0_count : Int32) (a1 : List Nat) (a2 : List Nat) (a3 : List Nat) (a4 : List Nat) (a5 : List Nat) (a6 : List Nat) : Bool := cond (cc_eq z0 0) (cc_f (x5 + 1) (fun x5_38 => k_J60 x3 x5_38 f0_count a1 a2 a3 a4 a5 a6)) (cc_in x5 && (cond (cc_lt (cc_F a4 x5.toNatClampNeg) 0) (cc_f (x5 + 1) (fun x5_41 => k_J60 x3 x5_41 f0_count a1 a2 a3 a4 a5 a6)) (cc_p_pushBefore (fun r_42 f0_count_43 am1301_46 am1302_49 am1303_52 am1304_55 am1305_58 am1306_61 => cond (cc_eq r_42 0) (cond (cc_eq x3 0) (cc_f (x5 + 1) (fun x5_65 => k_J60 0 x5_65 f0_count_43 am1301_46 am1302_49 am1303_52 am1304_55 am1305_58 am1306_61)) (cc_f (x5 + 1) (fun x5_66 => k_J60 1 x5_66 f0_count_43 am1301_46 am1302_49 am1303_52 am1304_55 am1305_58 am1306_61))) (cc_f (x5 + 1) (fun x5_63 => k_J60 1 x5_63 f0_count_43 am1301_46 am1302_49 am1303_52 am1304_55 am1305_58 am1306_61))) f0_count a1 a2 a3 a4 a5 a6 x5 x2)))
theorem cc_T_isStrong_109 {k_post : Int32 → Int32 → List Nat → List Nat → List Nat → List Nat → List Nat → List Nat → Bool} {post : Int32 → St2 → Prop} {k_J44 : Int32 → Int32 → Int32 → List Nat → List Nat → List Nat → List Nat → List Nat → List Nat → Bool} {J44 : Int32 → Int32 → Int32 → (Nat → Int32) → (Nat → Int32) → (Nat → Int32) → (Nat → Int32) → (Nat → Int32) → (Nat → Int32) → Prop} {k_J60 : Int32 → Int32 → Int32 → List Nat → List Nat → List Nat → List Nat → List Nat → List Nat → Bool} {J60 : Int32 → Int32 → Int32 → (Nat → Int32) → (Nat → Int32) → (Nat → Int32) → (Nat → Int32) → (Nat → Int32) → (Nat → Int32) → Prop} {x1 : Int32} {x2 : Int32} {x3 : Int32} {x4 : Int32} {x5 : Int32} {z0 : Int32} {f0_count : Int32} {a1 : List Nat} {a2 : List Nat} {a3 : List Nat} {a4 : List Nat} {a5 : List Nat} {a6 : List Nat} (h : cc_isStrong_109 k_post k_J44 k_J60 x1 x2 x3 x4 x5 z0 f0_count a1 a2 a3 a4 a5 a6 = true) (h_post : ∀ (v0 : Int32) (v1 : Int32) (v2 : List Nat) (v3 : List Nat) (v4 : List Nat) (v5 : List Nat) (v6 : List Nat) (v7 : List Nat), k_post v0 v1 v2 v3 v4 v5 v6 v7 = true → post v0 (v1, cc_F v2, cc_F v3, cc_F v4, cc_F v5, cc_F v6, cc_F v7)) (h_J44 : ∀ (v0 : Int32) (v1 : Int32) (v2 : Int32) (v3 : List Nat) (v4 : List Nat) (v5 : List Nat) (v6 : List Nat) (v7 : List Nat) (v8 : List Nat), k_J44 v0 v1 v2 v3 v4 v5 v6 v7 v8 = true → J44 v0 v1 v2 (cc_F v3) (cc_F v4) (cc_F v5) (cc_F v6) (cc_F v7) (cc_F v8)) (h_J60 : ∀ (v0 : Int32) (v1 : Int32) (v2 : Int32) (v3 : List Nat) (v4 : List Nat) (v5 : List Nat) (v6 : List Nat) (v7 : List Nat) (v8 : List Nat), k_J60 v0 v1 v2 v3 v4 v5 v6 v7 v8 = true → J60 v0 v1 v2 (cc_F v3) (cc_F v4) (cc_F v5) (cc_F v6) (cc_F v7) (cc_F v8)) : wX_isStrong_109 post J44 J60 x1 x2 x3 x4 x5 z0 f0_count (cc_F a1) (cc_F a2) (cc_F a3) (cc_F a4) (cc_F a5) (cc_F a6) := by
  unfold cc_isStrong_109 at h
  unfold wX_isStrong_109
  exact cc_if (cc_eq_p _ _) h (fun h => cc_f_p h (fun x5_38 h => h_J60 _ _ _ _ _ _ _ _ _ h)) (fun h => cc_in_p h (fun h => cc_if (cc_lt_p _ _) h (fun h => cc_f_p h (fun x5_41 h => h_J60 _ _ _ _ _ _ _ _ _ h)) (fun h => cc_Tp_pushBefore h (fun r_42 f0_count_43 am1301_46 am1302_49 am1303_52 am1304_55 am1305_58 am1306_61 h => cc_if (cc_eq_p _ _) h (fun h => cc_if (cc_eq_p _ _) h (fun h => cc_f_p h (fun x5_65 h => h_J60 _ _ _ _ _ _ _ _ _ h)) (fun h => cc_f_p h (fun x5_66 h => h_J60 _ _ _ _ _ _ _ _ _ h))) (fun h => cc_f_p h (fun x5_63 h => h_J60 _ _ _ _ _ _ _ _ _ h))))))
def cc_isStrong_108 (k_post : Int32 → Int32 → List Nat → List Nat → List Nat → List Nat → List Nat → List Nat → Bool) (k_J44 : Int32 → Int32 → Int32 → List Nat → List Nat → List Nat → List Nat → List Nat → List Nat → Bool) (k_J60 : Int32 → Int32 → Int32 → List Nat → List Nat → List Nat → List Nat → List Nat → List Nat → Bool) (x1 : Int32) (x2 : Int32) (x3 : Int32) (x4 : Int32) (x5 : Int32) (f0_count : Int32) (a1 : List Nat) (a2 : List Nat) (a3 : List Nat) (a4 : List Nat) (a5 : List Nat) (a6 : List Nat) : Bool := cc_isStrong_109 k_post k_J44 k_J60 x1 x2 x3 x4 x5 0 f0_count a1 a2 a3 a4 a5 a6
theorem cc_T_isStrong_108 {k_post : Int32 → Int32 → List Nat → List Nat → List Nat → List Nat → List Nat → List Nat → Bool} {post : Int32 → St2 → Prop} {k_J44 : Int32 → Int32 → Int32 → List Nat → List Nat → List Nat → List Nat → List Nat → List Nat → Bool} {J44 : Int32 → Int32 → Int32 → (Nat → Int32) → (Nat → Int32) → (Nat → Int32) → (Nat → Int32) → (Nat → Int32) → (Nat → Int32) → Prop} {k_J60 : Int32 → Int32 → Int32 → List Nat → List Nat → List Nat → List Nat → List Nat → List Nat → Bool} {J60 : Int32 → Int32 → Int32 → (Nat → Int32) → (Nat → Int32) → (Nat → Int32) → (Nat → Int32) → (Nat → Int32) → (Nat → Int32) → Prop} {x1 : Int32} {x2 : Int32} {x3 : Int32} {x4 : Int32} {x5 : Int32} {f0_count : Int32} {a1 : List Nat} {a2 : List Nat} {a3 : List Nat} {a4 : List Nat} {a5 : List Nat} {a6 : List Nat} (h : cc_isStrong_108 k_post k_J44 k_J60 x1 x2 x3 x4 x5 f0_count a1 a2 a3 a4 a5 a6 = true) (h_post : ∀ (v0 : Int32) (v1 : Int32) (v2 : List Nat) (v3 : List Nat) (v4 : List Nat) (v5 : List Nat) (v6 : List Nat) (v7 : List Nat), k_post v0 v1 v2 v3 v4 v5 v6 v7 = true → post v0 (v1, cc_F v2, cc_F v3, cc_F v4, cc_F v5, cc_F v6, cc_F v7)) (h_J44 : ∀ (v0 : Int32) (v1 : Int32) (v2 : Int32) (v3 : List Nat) (v4 : List Nat) (v5 : List Nat) (v6 : List Nat) (v7 : List Nat) (v8 : List Nat), k_J44 v0 v1 v2 v3 v4 v5 v6 v7 v8 = true → J44 v0 v1 v2 (cc_F v3) (cc_F v4) (cc_F v5) (cc_F v6) (cc_F v7) (cc_F v8)) (h_J60 : ∀ (v0 : Int32) (v1 : Int32) (v2 : Int32) (v3 : List Nat) (v4 : List Nat) (v5 : List Nat) (v6 : List Nat) (v7 : List Nat) (v8 : List Nat), k_J60 v0 v1 v2 v3 v4 v5 v6 v7 v8 = true → J60 v0 v1 v2 (cc_F v3) (cc_F v4) (cc_F v5) (cc_F v6) (cc_F v7) (cc_F v8)) : wX_isStrong_108 post J44 J60 x1 x2 x3 x4 x5 f0_count (cc_F a1) (cc_F a2) (cc_F a3) (cc_F a4) (cc_F a5) (cc_F a6) := by
  unfold cc_isStrong_108 at h
  unfold wX_isStrong_108
  exact cc_T_isStrong_109 h h_post h_J44 h_J60
def cc_isStrong_60 (k_post : Int32 → Int32 → List Nat → List Nat → List Nat → List Nat → List Nat → List Nat → Bool) (k_J44 : Int32 → Int32 → Int32 → List Nat → List Nat → List Nat → List Nat → List Nat → List Nat → Bool) (x1 : Int32) (x2 : Int32) (x4 : Int32) : Nat → Int32 → Int32 → Int32 → List Nat → List Nat → List Nat → List Nat → List Nat → List Nat → Bool
  | 0 => fun _ _ _ _ _ _ _ _ _ => false
  | n + 1 => fun x3 x5 f0_count a1 a2 a3 a4 a5 a6 => cond (cc_le f0_count x5) (cc_p_close (fun r_11 f0_count_12 am1541_15 am1542_18 am1543_21 am1544_24 am1545_27 am1546_30 => cond (cc_eq r_11 0) (cond (cc_eq x3 0) (cc_f (x4 + 1) (fun x4_34 => k_J44 0 x4_34 f0_count_12 am1541_15 am1542_18 am1543_21 am1544_24 am1545_27 am1546_30)) (cc_f (x4 + 1) (fun x4_35 => k_J44 1 x4_35 f0_count_12 am1541_15 am1542_18 am1543_21 am1544_24 am1545_27 am1546_30))) (cc_f (x4 + 1) (fun x4_32 => k_J44 1 x4_32 f0_count_12 am1541_15 am1542_18 am1543_21 am1544_24 am1545_27 am1546_30))) f0_count a1 a2 a3 a4 a5 a6 x2) (cond (cc_bit x2 x5) (cc_isStrong_108 k_post k_J44 (cc_isStrong_60 k_post k_J44 x1 x2 x4 n) x1 x2 x3 x4 x5 f0_count a1 a2 a3 a4 a5 a6) (cc_in x5 && (cond (cc_eq (cc_F a3 x5.toNatClampNeg) 0) (cc_in x5 && (cc_in x1 && (cond (cc_eq (cc_F a1 x5.toNatClampNeg) (cc_F a1 x1.toNatClampNeg)) (cc_isStrong_109 k_post k_J44 (cc_isStrong_60 k_post k_J44 x1 x2 x4 n) x1 x2 x3 x4 x5 1 f0_count a1 a2 a3 a4 a5 a6) (cc_isStrong_108 k_post k_J44 (cc_isStrong_60 k_post k_J44 x1 x2 x4 n) x1 x2 x3 x4 x5 f0_count a1 a2 a3 a4 a5 a6)))) (cc_isStrong_108 k_post k_J44 (cc_isStrong_60 k_post k_J44 x1 x2 x4 n) x1 x2 x3 x4 x5 f0_count a1 a2 a3 a4 a5 a6))))
theorem cc_T_isStrong_60 {k_post : Int32 → Int32 → List Nat → List Nat → List Nat → List Nat → List Nat → List Nat → Bool} {post : Int32 → St2 → Prop} {k_J44 : Int32 → Int32 → Int32 → List Nat → List Nat → List Nat → List Nat → List Nat → List Nat → Bool} {J44 : Int32 → Int32 → Int32 → (Nat → Int32) → (Nat → Int32) → (Nat → Int32) → (Nat → Int32) → (Nat → Int32) → (Nat → Int32) → Prop} {x1 : Int32} {x2 : Int32} {x4 : Int32} (h_post : ∀ (v0 : Int32) (v1 : Int32) (v2 : List Nat) (v3 : List Nat) (v4 : List Nat) (v5 : List Nat) (v6 : List Nat) (v7 : List Nat), k_post v0 v1 v2 v3 v4 v5 v6 v7 = true → post v0 (v1, cc_F v2, cc_F v3, cc_F v4, cc_F v5, cc_F v6, cc_F v7)) (h_J44 : ∀ (v0 : Int32) (v1 : Int32) (v2 : Int32) (v3 : List Nat) (v4 : List Nat) (v5 : List Nat) (v6 : List Nat) (v7 : List Nat) (v8 : List Nat), k_J44 v0 v1 v2 v3 v4 v5 v6 v7 v8 = true → J44 v0 v1 v2 (cc_F v3) (cc_F v4) (cc_F v5) (cc_F v6) (cc_F v7) (cc_F v8)) : ∀ (n : Nat) (x3 : Int32) (x5 : Int32) (f0_count : Int32) (a1 : List Nat) (a2 : List Nat) (a3 : List Nat) (a4 : List Nat) (a5 : List Nat) (a6 : List Nat), cc_isStrong_60 k_post k_J44 x1 x2 x4 n x3 x5 f0_count a1 a2 a3 a4 a5 a6 = true → wX_isStrong_60 post J44 x1 x2 x4 n x3 x5 f0_count (cc_F a1) (cc_F a2) (cc_F a3) (cc_F a4) (cc_F a5) (cc_F a6) := by
  intro n
  induction n with
  | zero => intro x3 x5 f0_count a1 a2 a3 a4 a5 a6 h; exact absurd h Bool.false_ne_true
  | succ n ih =>
    intro x3 x5 f0_count a1 a2 a3 a4 a5 a6 h
    unfold cc_isStrong_60 at h
    unfold wX_isStrong_60
    exact cc_if (cc_le_p _ _) h (fun h => cc_Tp_close h (fun r_11 f0_count_12 am1541_15 am1542_18 am1543_21 am1544_24 am1545_27 am1546_30 h => cc_if (cc_eq_p _ _) h (fun h => cc_if (cc_eq_p _ _) h (fun h => cc_f_p h (fun x4_34 h => h_J44 _ _ _ _ _ _ _ _ _ h)) (fun h => cc_f_p h (fun x4_35 h => h_J44 _ _ _ _ _ _ _ _ _ h))) (fun h => cc_f_p h (fun x4_32 h => h_J44 _ _ _ _ _ _ _ _ _ h)))) (fun h => cc_if (cc_bit_p _ _) h (fun h => cc_T_isStrong_108 h h_post h_J44 ih) (fun h => cc_in_p h (fun h => cc_if (cc_eq_p _ _) h (fun h => cc_in_p h (fun h => cc_in_p h (fun h => cc_if (cc_eq_p _ _) h (fun h => cc_T_isStrong_109 h h_post h_J44 ih) (fun h => cc_T_isStrong_108 h h_post h_J44 ih)))) (fun h => cc_T_isStrong_108 h h_post h_J44 ih))))
def cc_isStrong_44 (k_post : Int32 → Int32 → List Nat → List Nat → List Nat → List Nat → List Nat → List Nat → Bool) (x1 : Int32) (x2 : Int32) : Nat → Int32 → Int32 → Int32 → List Nat → List Nat → List Nat → List Nat → List Nat → List Nat → Bool
  | 0 => fun _ _ _ _ _ _ _ _ _ => false
  | n + 1 => fun x3 x4 f0_count a1 a2 a3 a4 a5 a6 => cond (cc_le 60 x4) (cc_isStrong_176 k_post x1 x2 f0_count a1 a2 a3 a4 a5 a6) (cond (cc_eq x3 0) (cc_isStrong_176 k_post x1 x2 f0_count a1 a2 a3 a4 a5 a6) (cc_isStrong_60 k_post (cc_isStrong_44 k_post x1 x2 n) x1 x2 x4 9 0 0 f0_count a1 a2 a3 a4 a5 a6))
theorem cc_T_isStrong_44 {k_post : Int32 → Int32 → List Nat → List Nat → List Nat → List Nat → List Nat → List Nat → Bool} {post : Int32 → St2 → Prop} {x1 : Int32} {x2 : Int32} (h_post : ∀ (v0 : Int32) (v1 : Int32) (v2 : List Nat) (v3 : List Nat) (v4 : List Nat) (v5 : List Nat) (v6 : List Nat) (v7 : List Nat), k_post v0 v1 v2 v3 v4 v5 v6 v7 = true → post v0 (v1, cc_F v2, cc_F v3, cc_F v4, cc_F v5, cc_F v6, cc_F v7)) : ∀ (n : Nat) (x3 : Int32) (x4 : Int32) (f0_count : Int32) (a1 : List Nat) (a2 : List Nat) (a3 : List Nat) (a4 : List Nat) (a5 : List Nat) (a6 : List Nat), cc_isStrong_44 k_post x1 x2 n x3 x4 f0_count a1 a2 a3 a4 a5 a6 = true → wX_isStrong_44 post x1 x2 n x3 x4 f0_count (cc_F a1) (cc_F a2) (cc_F a3) (cc_F a4) (cc_F a5) (cc_F a6) := by
  intro n
  induction n with
  | zero => intro x3 x4 f0_count a1 a2 a3 a4 a5 a6 h; exact absurd h Bool.false_ne_true
  | succ n ih =>
    intro x3 x4 f0_count a1 a2 a3 a4 a5 a6 h
    unfold cc_isStrong_44 at h
    unfold wX_isStrong_44
    exact cc_if (cc_le_p _ _) h (fun h => cc_T_isStrong_176 h h_post) (fun h => cc_if (cc_eq_p _ _) h (fun h => cc_T_isStrong_176 h h_post) (fun h => ⟨9, cc_T_isStrong_60 h_post ih 9 _ _ _ _ _ _ _ _ _ h⟩))
def cc_isStrong_13 (k_post : Int32 → Int32 → List Nat → List Nat → List Nat → List Nat → List Nat → List Nat → Bool) (x1 : Int32) (x2 : Int32) (f0_count : Int32) : Nat → Int32 → List Nat → List Nat → List Nat → List Nat → List Nat → List Nat → Bool
  | 0 => fun _ _ _ _ _ _ _ => false
  | n + 1 => fun x3 a1 a2 a3 a4 a5 a6 => cond (cc_le f0_count x3) (cc_isStrong_44 k_post x1 x2 61 1 0 f0_count a1 a2 a3 a4 a5 a6) (cc_in x3 && (cc_in x3 && (cc_s a6 x3.toNatClampNeg (cc_F a5 x3.toNatClampNeg) (fun a6_74 => cc_f (x3 + 1) (fun x3_75 => cc_isStrong_13 k_post x1 x2 f0_count n x3_75 a1 a2 a3 a4 a5 a6_74)))))
theorem cc_T_isStrong_13 {k_post : Int32 → Int32 → List Nat → List Nat → List Nat → List Nat → List Nat → List Nat → Bool} {post : Int32 → St2 → Prop} {x1 : Int32} {x2 : Int32} {f0_count : Int32} (h_post : ∀ (v0 : Int32) (v1 : Int32) (v2 : List Nat) (v3 : List Nat) (v4 : List Nat) (v5 : List Nat) (v6 : List Nat) (v7 : List Nat), k_post v0 v1 v2 v3 v4 v5 v6 v7 = true → post v0 (v1, cc_F v2, cc_F v3, cc_F v4, cc_F v5, cc_F v6, cc_F v7)) : ∀ (n : Nat) (x3 : Int32) (a1 : List Nat) (a2 : List Nat) (a3 : List Nat) (a4 : List Nat) (a5 : List Nat) (a6 : List Nat), cc_isStrong_13 k_post x1 x2 f0_count n x3 a1 a2 a3 a4 a5 a6 = true → wX_isStrong_13 post x1 x2 f0_count n x3 (cc_F a1) (cc_F a2) (cc_F a3) (cc_F a4) (cc_F a5) (cc_F a6) := by
  intro n
  induction n with
  | zero => intro x3 a1 a2 a3 a4 a5 a6 h; exact absurd h Bool.false_ne_true
  | succ n ih =>
    intro x3 a1 a2 a3 a4 a5 a6 h
    unfold cc_isStrong_13 at h
    unfold wX_isStrong_13
    exact cc_if (cc_le_p _ _) h (fun h => ⟨61, cc_T_isStrong_44 h_post 61 _ _ _ _ _ _ _ _ _ h⟩) (fun h => cc_in_p h (fun h => cc_in_p h (fun h => cc_s_p h (fun a6_74 h => cc_f_p h (fun x3_75 h => ih _ _ _ _ _ _ _ h)))))
def cc_p_isStrong (k_post : Int32 → Int32 → List Nat → List Nat → List Nat → List Nat → List Nat → List Nat → Bool) (f0_count : Int32) (a1 a2 a3 a4 a5 a6 : List Nat) (p0 : Int32) : Bool := cc_in p0 && (cc_f ((cc_F a5 p0.toNatClampNeg) ||| ((1 : Int32) <<< (p0 &&& 31))) (fun x2_2 => cc_isStrong_13 k_post p0 x2_2 f0_count 9 0 a1 a2 a3 a4 a5 a6))
theorem cc_Tp_isStrong {k_post : Int32 → Int32 → List Nat → List Nat → List Nat → List Nat → List Nat → List Nat → Bool} {post : Int32 → St2 → Prop} {f0_count : Int32} {a1 a2 a3 a4 a5 a6 : List Nat} {p0 : Int32} (h : cc_p_isStrong k_post f0_count a1 a2 a3 a4 a5 a6 p0 = true) (h_post : ∀ (v0 : Int32) (v1 : Int32) (v2 : List Nat) (v3 : List Nat) (v4 : List Nat) (v5 : List Nat) (v6 : List Nat) (v7 : List Nat), k_post v0 v1 v2 v3 v4 v5 v6 v7 = true → post v0 (v1, cc_F v2, cc_F v3, cc_F v4, cc_F v5, cc_F v6, cc_F v7)) : wpX_isStrong post (f0_count, cc_F a1, cc_F a2, cc_F a3, cc_F a4, cc_F a5, cc_F a6) p0 := by
  unfold cc_p_isStrong at h
  unfold wpX_isStrong
  try dsimp only
  exact cc_in_p h (fun h => cc_f_p h (fun x2_2 h => ⟨9, cc_T_isStrong_13 h_post 9 _ _ _ _ _ _ _ h⟩))
def cc_sound_27 (k_post : Int32 → Int32 → List Nat → List Nat → List Nat → List Nat → List Nat → List Nat → Bool) (k_J6 : Int32 → Int32 → Int32 → Int32 → List Nat → List Nat → List Nat → List Nat → List Nat → List Nat → Bool) (x2 : Int32) (x3 : Int32) (z0 : Int32) (f0_count : Int32) (a1 : List Nat) (a2 : List Nat) (a3 : List Nat) (a4 : List Nat) (a5 : List Nat) (a6 : List Nat) : Bool := cc_p_isStrong (fun r_25 f0_count_26 am301_29 am302_32 am303_35 am304_38 am305_41 am306_44 => cond (cc_eq r_25 0) (cc_f (x3 + 1) (fun x3_46 => k_J6 z0 0 x3_46 f0_count_26 am301_29 am302_32 am303_35 am304_38 am305_41 am306_44)) (cc_f (x3 + 1) (fun x3_47 => k_J6 z0 x2 x3_47 f0_count_26 am301_29 am302_32 am303_35 am304_38 am305_41 am306_44))) f0_count a1 a2 a3 a4 a5 a6 x3
theorem cc_T_sound_27 {k_post : Int32 → Int32 → List Nat → List Nat → List Nat → List Nat → List Nat → List Nat → Bool} {post : Int32 → St2 → Prop} {k_J6 : Int32 → Int32 → Int32 → Int32 → List Nat → List Nat → List Nat → List Nat → List Nat → List Nat → Bool} {J6 : Int32 → Int32 → Int32 → Int32 → (Nat → Int32) → (Nat → Int32) → (Nat → Int32) → (Nat → Int32) → (Nat → Int32) → (Nat → Int32) → Prop} {x2 : Int32} {x3 : Int32} {z0 : Int32} {f0_count : Int32} {a1 : List Nat} {a2 : List Nat} {a3 : List Nat} {a4 : List Nat} {a5 : List Nat} {a6 : List Nat} (h : cc_sound_27 k_post k_J6 x2 x3 z0 f0_count a1 a2 a3 a4 a5 a6 = true) (h_post : ∀ (v0 : Int32) (v1 : Int32) (v2 : List Nat) (v3 : List Nat) (v4 : List Nat) (v5 : List Nat) (v6 : List Nat) (v7 : List Nat), k_post v0 v1 v2 v3 v4 v5 v6 v7 = true → post v0 (v1, cc_F v2, cc_F v3, cc_F v4, cc_F v5, cc_F v6, cc_F v7)) (h_J6 : ∀ (v0 : Int32) (v1 : Int32) (v2 : Int32) (v3 : Int32) (v4 : List Nat) (v5 : List Nat) (v6 : List Nat) (v7 : List Nat) (v8 : List Nat) (v9 : List Nat), k_J6 v0 v1 v2 v3 v4 v5 v6 v7 v8 v9 = true → J6 v0 v1 v2 v3 (cc_F v4) (cc_F v5) (cc_F v6) (cc_F v7) (cc_F v8) (cc_F v9)) : wX_sound_27 post J6 x2 x3 z0 f0_count (cc_F a1) (cc_F a2) (cc_F a3) (cc_F a4) (cc_F a5) (cc_F a6) := by
  unfold cc_sound_27 at h
  unfold wX_sound_27
  exact cc_Tp_isStrong h (fun r_25 f0_count_26 am301_29 am302_32 am303_35 am304_38 am305_41 am306_44 h => cc_if (cc_eq_p _ _) h (fun h => cc_f_p h (fun x3_46 h => h_J6 _ _ _ _ _ _ _ _ _ _ h)) (fun h => cc_f_p h (fun x3_47 h => h_J6 _ _ _ _ _ _ _ _ _ _ h)))
def cc_sound_6 (k_post : Int32 → Int32 → List Nat → List Nat → List Nat → List Nat → List Nat → List Nat → Bool) : Nat → Int32 → Int32 → Int32 → Int32 → List Nat → List Nat → List Nat → List Nat → List Nat → List Nat → Bool
  | 0 => fun _ _ _ _ _ _ _ _ _ _ => false
  | n + 1 => fun x1 x2 x3 f0_count a1 a2 a3 a4 a5 a6 => cond (cc_le f0_count x3) (cc_p_converges (fun r_2 f0_count_3 am521_6 am522_9 am523_12 am524_15 am525_18 am526_21 => cond (cc_eq r_2 0) (k_post ((x1 + x2) + 0) f0_count_3 am521_6 am522_9 am523_12 am524_15 am525_18 am526_21) (k_post ((x1 + x2) + 4) f0_count_3 am521_6 am522_9 am523_12 am524_15 am525_18 am526_21)) f0_count a1 a2 a3 a4 a5 a6) (cc_p_isWeak (fun r_23 => cond (cc_eq r_23 0) (cc_sound_27 k_post (cc_sound_6 k_post n) x2 x3 0 f0_count a1 a2 a3 a4 a5 a6) (cc_sound_27 k_post (cc_sound_6 k_post n) x2 x3 x1 f0_count a1 a2 a3 a4 a5 a6)) f0_count a1 a2 a3 a4 a5 a6 x3)
theorem cc_T_sound_6 {k_post : Int32 → Int32 → List Nat → List Nat → List Nat → List Nat → List Nat → List Nat → Bool} {post : Int32 → St2 → Prop} (h_post : ∀ (v0 : Int32) (v1 : Int32) (v2 : List Nat) (v3 : List Nat) (v4 : List Nat) (v5 : List Nat) (v6 : List Nat) (v7 : List Nat), k_post v0 v1 v2 v3 v4 v5 v6 v7 = true → post v0 (v1, cc_F v2, cc_F v3, cc_F v4, cc_F v5, cc_F v6, cc_F v7)) : ∀ (n : Nat) (x1 : Int32) (x2 : Int32) (x3 : Int32) (f0_count : Int32) (a1 : List Nat) (a2 : List Nat) (a3 : List Nat) (a4 : List Nat) (a5 : List Nat) (a6 : List Nat), cc_sound_6 k_post n x1 x2 x3 f0_count a1 a2 a3 a4 a5 a6 = true → wX_sound_6 post n x1 x2 x3 f0_count (cc_F a1) (cc_F a2) (cc_F a3) (cc_F a4) (cc_F a5) (cc_F a6) := by
  intro n
  induction n with
  | zero => intro x1 x2 x3 f0_count a1 a2 a3 a4 a5 a6 h; exact absurd h Bool.false_ne_true
  | succ n ih =>
    intro x1 x2 x3 f0_count a1 a2 a3 a4 a5 a6 h
    unfold cc_sound_6 at h
    unfold wX_sound_6
    exact cc_if (cc_le_p _ _) h (fun h => cc_Tp_converges h (fun r_2 f0_count_3 am521_6 am522_9 am523_12 am524_15 am525_18 am526_21 h => cc_if (cc_eq_p _ _) h (fun h => h_post _ _ _ _ _ _ _ _ h) (fun h => h_post _ _ _ _ _ _ _ _ h))) (fun h => cc_Tp_isWeak h (fun r_23 h => cc_if (cc_eq_p _ _) h (fun h => cc_T_sound_27 h h_post ih) (fun h => cc_T_sound_27 h h_post ih)))
def cc_p_sound (k_post : Int32 → Int32 → List Nat → List Nat → List Nat → List Nat → List Nat → List Nat → Bool) (f0_count : Int32) (a1 a2 a3 a4 a5 a6 : List Nat) : Bool := cc_sound_6 k_post 9 1 2 0 f0_count a1 a2 a3 a4 a5 a6
theorem cc_Tp_sound {k_post : Int32 → Int32 → List Nat → List Nat → List Nat → List Nat → List Nat → List Nat → Bool} {post : Int32 → St2 → Prop} {f0_count : Int32} {a1 a2 a3 a4 a5 a6 : List Nat} (h : cc_p_sound k_post f0_count a1 a2 a3 a4 a5 a6 = true) (h_post : ∀ (v0 : Int32) (v1 : Int32) (v2 : List Nat) (v3 : List Nat) (v4 : List Nat) (v5 : List Nat) (v6 : List Nat) (v7 : List Nat), k_post v0 v1 v2 v3 v4 v5 v6 v7 = true → post v0 (v1, cc_F v2, cc_F v3, cc_F v4, cc_F v5, cc_F v6, cc_F v7)) : wpX_sound post (f0_count, cc_F a1, cc_F a2, cc_F a3, cc_F a4, cc_F a5, cc_F a6) := by
  unfold cc_p_sound at h
  unfold wpX_sound
  try dsimp only
  exact ⟨9, cc_T_sound_6 h_post 9 _ _ _ _ _ _ _ _ _ _ h⟩
def cc_choices_25 (k_post : Int32 → Int32 → List Nat → List Nat → List Nat → List Nat → List Nat → List Nat → Bool) (x1 : Int32) (x2 : Int32) : Nat → Int32 → Int32 → Int32 → List Nat → List Nat → List Nat → List Nat → List Nat → List Nat → Bool
  | 0 => fun _ _ _ _ _ _ _ _ _ => false
  | n + 1 => fun x3 x4 f0_count a1 a2 a3 a4 a5 a6 => cond (cc_le f0_count x4) (k_post x3 f0_count a1 a2 a3 a4 a5 a6) (cc_p_isSource (fun r_6 => cond (cc_eq r_6 0) (cc_f (x4 + 1) (fun x4_8 => cc_choices_25 k_post x1 x2 n x3 x4_8 f0_count a1 a2 a3 a4 a5 a6)) (cc_p_enter (fun f0_count_10 am501_13 am502_16 am503_19 am504_22 am505_25 am506_28 => cc_p_converges (fun r_29 f0_count_30 am541_33 am542_36 am543_39 am544_42 am545_45 am546_48 => cc_f (f0_count_30 - 1) (fun f_49 => cond (cc_eq r_29 0) (cc_f (x3 ||| 0) (fun x3_51 => cc_f (x4 + 1) (fun x4_52 => cc_choices_25 k_post x1 x2 n x3_51 x4_52 f_49 am541_33 am542_36 am543_39 am544_42 am545_45 am546_48))) (cond (cc_le 0 x4) (cc_f (x3 ||| ((1 : Int32) <<< (x4 &&& 31))) (fun x3_54 => cc_f (x4 + 1) (fun x4_55 => cc_choices_25 k_post x1 x2 n x3_54 x4_55 f_49 am541_33 am542_36 am543_39 am544_42 am545_45 am546_48))) (cc_f (x3 ||| ((1 : Int32) <<< ((7 : Int32) &&& 31))) (fun x3_56 => cc_f (x4 + 1) (fun x4_57 => cc_choices_25 k_post x1 x2 n x3_56 x4_57 f_49 am541_33 am542_36 am543_39 am544_42 am545_45 am546_48)))))) f0_count_10 am501_13 am502_16 am503_19 am504_22 am505_25 am506_28) f0_count a1 a2 a3 a4 a5 a6 x1 x2 0 x4)) f0_count a1 a2 a3 a4 a5 a6 x4 x2)
theorem cc_T_choices_25 {k_post : Int32 → Int32 → List Nat → List Nat → List Nat → List Nat → List Nat → List Nat → Bool} {post : Int32 → St2 → Prop} {x1 : Int32} {x2 : Int32} (h_post : ∀ (v0 : Int32) (v1 : Int32) (v2 : List Nat) (v3 : List Nat) (v4 : List Nat) (v5 : List Nat) (v6 : List Nat) (v7 : List Nat), k_post v0 v1 v2 v3 v4 v5 v6 v7 = true → post v0 (v1, cc_F v2, cc_F v3, cc_F v4, cc_F v5, cc_F v6, cc_F v7)) : ∀ (n : Nat) (x3 : Int32) (x4 : Int32) (f0_count : Int32) (a1 : List Nat) (a2 : List Nat) (a3 : List Nat) (a4 : List Nat) (a5 : List Nat) (a6 : List Nat), cc_choices_25 k_post x1 x2 n x3 x4 f0_count a1 a2 a3 a4 a5 a6 = true → wX_choices_25 post x1 x2 n x3 x4 f0_count (cc_F a1) (cc_F a2) (cc_F a3) (cc_F a4) (cc_F a5) (cc_F a6) := by
  intro n
  induction n with
  | zero => intro x3 x4 f0_count a1 a2 a3 a4 a5 a6 h; exact absurd h Bool.false_ne_true
  | succ n ih =>
    intro x3 x4 f0_count a1 a2 a3 a4 a5 a6 h
    unfold cc_choices_25 at h
    unfold wX_choices_25
    exact cc_if (cc_le_p _ _) h (fun h => h_post _ _ _ _ _ _ _ _ h) (fun h => cc_Tp_isSource h (fun r_6 h => cc_if (cc_eq_p _ _) h (fun h => cc_f_p h (fun x4_8 h => ih _ _ _ _ _ _ _ _ _ h)) (fun h => cc_Tp_enter h (fun f0_count_10 am501_13 am502_16 am503_19 am504_22 am505_25 am506_28 h => cc_Tp_converges h (fun r_29 f0_count_30 am541_33 am542_36 am543_39 am544_42 am545_45 am546_48 h => cc_f_p h (fun f_49 h => cc_if (cc_eq_p _ _) h (fun h => cc_f_p h (fun x3_51 h => cc_f_p h (fun x4_52 h => ih _ _ _ _ _ _ _ _ _ h))) (fun h => cc_if (cc_le_p _ _) h (fun h => cc_f_p h (fun x3_54 h => cc_f_p h (fun x4_55 h => ih _ _ _ _ _ _ _ _ _ h))) (fun h => cc_f_p h (fun x3_56 h => cc_f_p h (fun x4_57 h => ih _ _ _ _ _ _ _ _ _ h))))))))))
def cc_p_choices (k_post : Int32 → Int32 → List Nat → List Nat → List Nat → List Nat → List Nat → List Nat → Bool) (f0_count : Int32) (a1 a2 a3 a4 a5 a6 : List Nat) (p0 : Int32) (p1 : Int32) : Bool := cond (cc_lt p0 0) (k_post (- 1) f0_count a1 a2 a3 a4 a5 a6) (cond (cc_lt 2 p0) (k_post (- 1) f0_count a1 a2 a3 a4 a5 a6) (cond (cc_lt p1 0) (k_post (- 1) f0_count a1 a2 a3 a4 a5 a6) (cond (cc_le p1 1) (cc_choices_25 k_post p0 p1 9 0 (- 1) f0_count a1 a2 a3 a4 a5 a6) (k_post (- 1) f0_count a1 a2 a3 a4 a5 a6))))
theorem cc_Tp_choices {k_post : Int32 → Int32 → List Nat → List Nat → List Nat → List Nat → List Nat → List Nat → Bool} {post : Int32 → St2 → Prop} {f0_count : Int32} {a1 a2 a3 a4 a5 a6 : List Nat} {p0 : Int32} {p1 : Int32} (h : cc_p_choices k_post f0_count a1 a2 a3 a4 a5 a6 p0 p1 = true) (h_post : ∀ (v0 : Int32) (v1 : Int32) (v2 : List Nat) (v3 : List Nat) (v4 : List Nat) (v5 : List Nat) (v6 : List Nat) (v7 : List Nat), k_post v0 v1 v2 v3 v4 v5 v6 v7 = true → post v0 (v1, cc_F v2, cc_F v3, cc_F v4, cc_F v5, cc_F v6, cc_F v7)) : wpX_choices post (f0_count, cc_F a1, cc_F a2, cc_F a3, cc_F a4, cc_F a5, cc_F a6) p0 p1 := by
  unfold cc_p_choices at h
  unfold wpX_choices
  try dsimp only
  exact cc_if (cc_lt_p _ _) h (fun h => h_post _ _ _ _ _ _ _ _ h) (fun h => cc_if (cc_lt_p _ _) h (fun h => h_post _ _ _ _ _ _ _ _ h) (fun h => cc_if (cc_lt_p _ _) h (fun h => h_post _ _ _ _ _ _ _ _ h) (fun h => cc_if (cc_le_p _ _) h (fun h => ⟨9, cc_T_choices_25 h_post 9 _ _ _ _ _ _ _ _ _ h⟩) (fun h => h_post _ _ _ _ _ _ _ _ h))))
def cc_p_isHeld (k_post : Int32 → Bool) (f0_count : Int32) (a1 a2 a3 a4 a5 a6 : List Nat) (p0 : Int32) : Bool := cond (cc_lt p0 0) (k_post 0) (cond (cc_le f0_count p0) (k_post 0) (k_post 1))
theorem cc_Tp_isHeld {k_post : Int32 → Bool} {post : Int32 → Prop} {f0_count : Int32} {a1 a2 a3 a4 a5 a6 : List Nat} {p0 : Int32} (h : cc_p_isHeld k_post f0_count a1 a2 a3 a4 a5 a6 p0 = true) (h_post : ∀ (v0 : Int32), k_post v0 = true → post v0) : wpX_isHeld post (f0_count, cc_F a1, cc_F a2, cc_F a3, cc_F a4, cc_F a5, cc_F a6) p0 := by
  unfold cc_p_isHeld at h
  unfold wpX_isHeld
  try dsimp only
  exact cc_if (cc_lt_p _ _) h (fun h => h_post _ h) (fun h => cc_if (cc_le_p _ _) h (fun h => h_post _ h) (fun h => h_post _ h))
def cc_p_before (k_post : Int32 → Bool) (f0_count : Int32) (a1 a2 a3 a4 a5 a6 : List Nat) (p0 : Int32) (p1 : Int32) : Bool := cc_p_isHeld (fun r_1 => cond (cc_eq r_1 0) (k_post (- 1)) (cc_p_isHeld (fun r_3 => cond (cc_eq r_3 0) (k_post (- 1)) (cc_in p1 && (k_post ((((cc_F a5 p1.toNatClampNeg).toUInt32 >>> (p0.toUInt32 &&& Int32.toUInt32 31)).toInt32) &&& 1)))) f0_count a1 a2 a3 a4 a5 a6 p1)) f0_count a1 a2 a3 a4 a5 a6 p0
theorem cc_Tp_before {k_post : Int32 → Bool} {post : Int32 → Prop} {f0_count : Int32} {a1 a2 a3 a4 a5 a6 : List Nat} {p0 : Int32} {p1 : Int32} (h : cc_p_before k_post f0_count a1 a2 a3 a4 a5 a6 p0 p1 = true) (h_post : ∀ (v0 : Int32), k_post v0 = true → post v0) : wpX_before post (f0_count, cc_F a1, cc_F a2, cc_F a3, cc_F a4, cc_F a5, cc_F a6) p0 p1 := by
  unfold cc_p_before at h
  unfold wpX_before
  try dsimp only
  exact cc_Tp_isHeld h (fun r_1 h => cc_if (cc_eq_p _ _) h (fun h => h_post _ h) (fun h => cc_Tp_isHeld h (fun r_3 h => cc_if (cc_eq_p _ _) h (fun h => h_post _ h) (fun h => cc_in_p h (fun h => h_post _ h)))))
def cc_p_weak (k_post : Int32 → Bool) (f0_count : Int32) (a1 a2 a3 a4 a5 a6 : List Nat) (p0 : Int32) : Bool := cc_p_isHeld (fun r_1 => cond (cc_eq r_1 0) (k_post (- 1)) (cc_p_isWeak (fun r_3 => cond (cc_eq r_3 0) (k_post 0) (k_post 1)) f0_count a1 a2 a3 a4 a5 a6 p0)) f0_count a1 a2 a3 a4 a5 a6 p0
theorem cc_Tp_weak {k_post : Int32 → Bool} {post : Int32 → Prop} {f0_count : Int32} {a1 a2 a3 a4 a5 a6 : List Nat} {p0 : Int32} (h : cc_p_weak k_post f0_count a1 a2 a3 a4 a5 a6 p0 = true) (h_post : ∀ (v0 : Int32), k_post v0 = true → post v0) : wpX_weak post (f0_count, cc_F a1, cc_F a2, cc_F a3, cc_F a4, cc_F a5, cc_F a6) p0 := by
  unfold cc_p_weak at h
  unfold wpX_weak
  try dsimp only
  exact cc_Tp_isHeld h (fun r_1 h => cc_if (cc_eq_p _ _) h (fun h => h_post _ h) (fun h => cc_Tp_isWeak h (fun r_3 h => cc_if (cc_eq_p _ _) h (fun h => h_post _ h) (fun h => h_post _ h))))
def cc_p_back (k_post : Int32 → Int32 → List Nat → List Nat → List Nat → List Nat → List Nat → List Nat → Bool) (f0_count : Int32) (a1 a2 a3 a4 a5 a6 : List Nat) : Bool := cond (cc_eq f0_count 0) (k_post (- 1) f0_count a1 a2 a3 a4 a5 a6) (cc_f (f0_count - 1) (fun f_2 => k_post f_2 f_2 a1 a2 a3 a4 a5 a6))
theorem cc_Tp_back {k_post : Int32 → Int32 → List Nat → List Nat → List Nat → List Nat → List Nat → List Nat → Bool} {post : Int32 → St2 → Prop} {f0_count : Int32} {a1 a2 a3 a4 a5 a6 : List Nat} (h : cc_p_back k_post f0_count a1 a2 a3 a4 a5 a6 = true) (h_post : ∀ (v0 : Int32) (v1 : Int32) (v2 : List Nat) (v3 : List Nat) (v4 : List Nat) (v5 : List Nat) (v6 : List Nat) (v7 : List Nat), k_post v0 v1 v2 v3 v4 v5 v6 v7 = true → post v0 (v1, cc_F v2, cc_F v3, cc_F v4, cc_F v5, cc_F v6, cc_F v7)) : wpX_back post (f0_count, cc_F a1, cc_F a2, cc_F a3, cc_F a4, cc_F a5, cc_F a6) := by
  unfold cc_p_back at h
  unfold wpX_back
  try dsimp only
  exact cc_if (cc_eq_p _ _) h (fun h => h_post _ _ _ _ _ _ _ _ h) (fun h => cc_f_p h (fun f_2 h => h_post _ _ _ _ _ _ _ _ h))
def cc_p_strong (k_post : Int32 → Int32 → List Nat → List Nat → List Nat → List Nat → List Nat → List Nat → Bool) (f0_count : Int32) (a1 a2 a3 a4 a5 a6 : List Nat) (p0 : Int32) : Bool := cc_p_isHeld (fun r_1 => cond (cc_eq r_1 0) (k_post (- 1) f0_count a1 a2 a3 a4 a5 a6) (cc_p_isStrong (fun r_3 f0_count_4 am121_7 am122_10 am123_13 am124_16 am125_19 am126_22 => cond (cc_eq r_3 0) (k_post 0 f0_count_4 am121_7 am122_10 am123_13 am124_16 am125_19 am126_22) (k_post 1 f0_count_4 am121_7 am122_10 am123_13 am124_16 am125_19 am126_22)) f0_count a1 a2 a3 a4 a5 a6 p0)) f0_count a1 a2 a3 a4 a5 a6 p0
theorem cc_Tp_strong {k_post : Int32 → Int32 → List Nat → List Nat → List Nat → List Nat → List Nat → List Nat → Bool} {post : Int32 → St2 → Prop} {f0_count : Int32} {a1 a2 a3 a4 a5 a6 : List Nat} {p0 : Int32} (h : cc_p_strong k_post f0_count a1 a2 a3 a4 a5 a6 p0 = true) (h_post : ∀ (v0 : Int32) (v1 : Int32) (v2 : List Nat) (v3 : List Nat) (v4 : List Nat) (v5 : List Nat) (v6 : List Nat) (v7 : List Nat), k_post v0 v1 v2 v3 v4 v5 v6 v7 = true → post v0 (v1, cc_F v2, cc_F v3, cc_F v4, cc_F v5, cc_F v6, cc_F v7)) : wpX_strong post (f0_count, cc_F a1, cc_F a2, cc_F a3, cc_F a4, cc_F a5, cc_F a6) p0 := by
  unfold cc_p_strong at h
  unfold wpX_strong
  try dsimp only
  exact cc_Tp_isHeld h (fun r_1 h => cc_if (cc_eq_p _ _) h (fun h => h_post _ _ _ _ _ _ _ _ h) (fun h => cc_Tp_isStrong h (fun r_3 f0_count_4 am121_7 am122_10 am123_13 am124_16 am125_19 am126_22 h => cc_if (cc_eq_p _ _) h (fun h => h_post _ _ _ _ _ _ _ _ h) (fun h => h_post _ _ _ _ _ _ _ _ h))))
end
section
/-- 0 .. 5 -/
def cc_all (f : Nat → Bool) : Bool := f 0 && (f 1 && (f 2 && (f 3 && (f 4 && f 5))))
theorem cc_all_p {f : Nat → Bool} (h : cc_all f = true) : ∀ j, j < 6 → f j = true := by
  unfold cc_all at h
  rw [Bool.and_eq_true, Bool.and_eq_true, Bool.and_eq_true, Bool.and_eq_true, Bool.and_eq_true] at h
  obtain ⟨h0, h1, h2, h3, h4, h5⟩ := h
  intro j hj
  match j, hj with
  | 0, _ => exact h0
  | 1, _ => exact h1
  | 2, _ => exact h2
  | 3, _ => exact h3
  | 4, _ => exact h4
  | 5, _ => exact h5
/-- what the last stretch of the law asks of the state: six operations are held, each weak and strong, 'before' goes upwards -/
def cc_kw (c : Int32) (l1 l2 l3 l4 l5 l6 : List Nat) (n : Nat) : Bool := cc_p_weak (fun r => cc_eq r 1) c l1 l2 l3 l4 l5 l6 (nI n)
def cc_ks (c : Int32) (l1 l2 l3 l4 l5 l6 : List Nat) (n : Nat) : Bool := cc_p_strong (fun r d _ _ _ _ _ _ => cc_eq r 1 && cc_eq d 6) c l1 l2 l3 l4 l5 l6 (nI n)
def cc_kb (c : Int32) (l1 l2 l3 l4 l5 l6 : List Nat) (a b : Nat) : Bool := cc_p_before (fun r => not (cc_lt r 0) && (not (cc_eq r 1) || Nat.ble (a + 1) b)) c l1 l2 l3 l4 l5 l6 (nI a) (nI b)
def cc_kf (c : Int32) (l1 l2 l3 l4 l5 l6 : List Nat) : Bool :=
  cc_eq c 6 && (cc_all (cc_kw c l1 l2 l3 l4 l5 l6) && (cc_all (cc_ks c l1 l2 l3 l4 l5 l6) && cc_all (fun a => cc_all (cc_kb c l1 l2 l3 l4 l5 l6 a))))
theorem cc_820 {post : Int32 → St0 → Prop} {mc ms kc ks : Nat} {z0 z1 c : Int32} {a1 a2 a3 a4 a5 a6 : Nat → Int32} (hp : post 1 ()) (e : z1 = z0) (hc : c = 6) : wL_lawOf_820 post mc ms z0 z1 kc ks c a1 a2 a3 a4 a5 a6 := by
  subst hc
  unfold wL_lawOf_820
  refine br_t e ?_
  unfold wpX_back
  try dsimp only
  exact br_f (by decide) (nm_r (e' := 5) (by decide) (br_t rfl hp))
theorem cc_out (x : Int32) : (x < 0 ∨ nI 6 ≤ x) ∨ ∃ j : Nat, j < 6 ∧ x = nI j := by
  rcases pk_ix x (n := 6) (by decide) with h | h | h
  · exact Or.inl (Or.inl h)
  · exact Or.inl (Or.inr h)
  · exact Or.inr h
theorem cc_held_out {post : Int32 → Prop} {c x : Int32} {a1 a2 a3 a4 a5 a6 : Nat → Int32} (hc : c = 6) (h : x < 0 ∨ nI 6 ≤ x) (hp : post 0) : wpX_isHeld post (c, a1, a2, a3, a4, a5, a6) x := by
  subst hc
  unfold wpX_isHeld
  try dsimp only
  exact br_c (fun _ => hp) (fun g => br_t (h.resolve_left g) hp)
theorem cc_held_in {post : Int32 → Prop} {c x : Int32} {a1 a2 a3 a4 a5 a6 : Nat → Int32} (hc : c = 6) (h : ∃ j : Nat, j < 6 ∧ x = nI j) (hp : post 1) : wpX_isHeld post (c, a1, a2, a3, a4, a5, a6) x := by
  obtain ⟨j, hj, rfl⟩ := h
  subst hc
  unfold wpX_isHeld
  try dsimp only
  have e0 : ¬ nI j < 0 := fun z => absurd ((nI_ltI (b := 0) (by omega) (by omega)).mp z) (by omega)
  have e6 : ¬ (6 : Int32) ≤ nI j := fun z => absurd ((nI_leI (a := 6) (by omega) (by omega)).mp z) (by omega)
  exact br_f e0 (br_f e6 hp)
theorem cc_rng_in {j : Nat} (hj : j < 6) : ¬ nI j < 0 ∧ ¬ (5 : Int32) < nI j ∧ nI j ≤ (5 : Int32) :=
  ⟨fun z => absurd ((nI_ltI (b := 0) (by omega) (by omega)).mp z) (by omega), fun z => absurd ((nI_ltI (a := 5) (by omega) (by omega)).mp z) (by omega), (nI_leI (b := 5) (by omega) (by omega)).mpr (by omega)⟩
theorem cc_rng_out {x : Int32} (h : x < 0 ∨ nI 6 ≤ x) (g : ¬ x < 0) : ¬ x ≤ (5 : Int32) ∧ (5 : Int32) < x := by
  have h6 := h.resolve_left g
  rw [Int32.le_iff_toInt_le, nI_toInt (by omega)] at h6
  have e5 : (5 : Int32).toInt = 5 := by decide
  constructor
  · intro z
    rw [Int32.le_iff_toInt_le, e5] at z
    omega
  · rw [Int32.lt_iff_toInt_lt, e5]
    omega
theorem cc_797_out {post : Int32 → St0 → Prop} {mc ms kc ks : Nat} {x2 c : Int32} {a1 a2 a3 a4 a5 a6 : Nat → Int32} (hp : post 1 ()) (hc : c = 6) (h : x2 < 0 ∨ nI 6 ≤ x2) : wL_lawOf_797 post mc ms x2 (-1) (-1) kc ks c a1 a2 a3 a4 a5 a6 := by
  unfold wL_lawOf_797
  refine br_t rfl ?_
  unfold wpX_strong
  try dsimp only
  refine cc_held_out hc h (br_t rfl ?_)
  have e : wL_lawOf_815 post mc ms (-1) kc ks c a1 a2 a3 a4 a5 a6 := by
    unfold wL_lawOf_815
    exact cc_820 hp rfl hc
  exact br_c (fun _ => e) (fun g => br_f (cc_rng_out h g).1 e)
theorem cc_777 {post : Int32 → St0 → Prop} {mc ms kc ks : Nat} {x2 c : Int32} {l1 l2 l3 l4 l5 l6 : List Nat} (hp : post 1 ()) (hk : cc_kf c l1 l2 l3 l4 l5 l6 = true) :
    wL_lawOf_777 post mc ms x2 kc ks c (cc_F l1) (cc_F l2) (cc_F l3) (cc_F l4) (cc_F l5) (cc_F l6) := by
  unfold cc_kf at hk
  rw [Bool.and_eq_true, Bool.and_eq_true, Bool.and_eq_true] at hk
  obtain ⟨h6, hw, hs, _⟩ := hk
  have hc : c = 6 := (cc_eq_p _ _).mp h6
  unfold wL_lawOf_777
  rcases cc_out x2 with h | ⟨j, hj, rfl⟩
  · unfold wpX_weak
    try dsimp only
    refine cc_held_out hc h (br_t rfl ?_)
    have e : wL_lawOf_792 post mc ms x2 (-1) kc ks c (cc_F l1) (cc_F l2) (cc_F l3) (cc_F l4) (cc_F l5) (cc_F l6) := by
      unfold wL_lawOf_792
      exact cc_797_out hp hc h
    exact br_c (fun _ => e) (fun g => br_f (cc_rng_out h g).1 e)
  · obtain ⟨g0, _, g5⟩ := cc_rng_in hj
    have w1 : cc_p_weak (fun r => cc_eq r 1) c l1 l2 l3 l4 l5 l6 (nI j) = true := cc_all_p hw j hj
    have s1 : cc_p_strong (fun r d _ _ _ _ _ _ => cc_eq r 1 && cc_eq d 6) c l1 l2 l3 l4 l5 l6 (nI j) = true := cc_all_p hs j hj
    refine cc_Tp_weak w1 (fun r hr => ?_)
    have er : r = 1 := (cc_eq_p _ _).mp hr
    subst er
    refine br_f g0 (br_t g5 ?_)
    unfold wL_lawOf_797
    refine br_t rfl ?_
    refine cc_Tp_strong s1 (fun r d m1 m2 m3 m4 m5 m6 hr => ?_)
    rw [Bool.and_eq_true] at hr
    have er : r = 1 := (cc_eq_p _ _).mp hr.1
    have ed : d = 6 := (cc_eq_p _ _).mp hr.2
    subst er
    exact br_f g0 (br_t g5 (cc_820 hp rfl ed))
theorem cc_before_out {post : Int32 → Prop} {c x y : Int32} {a1 a2 a3 a4 a5 a6 : Nat → Int32} (hc : c = 6) (h : (x < 0 ∨ nI 6 ≤ x) ∨ (y < 0 ∨ nI 6 ≤ y)) (hp : post (-1)) : wpX_before post (c, a1, a2, a3, a4, a5, a6) x y := by
  unfold wpX_before
  try dsimp only
  rcases cc_out x with g | g
  · exact cc_held_out hc g (br_t rfl hp)
  · rcases h with h | h
    · exact cc_held_out hc h (br_t rfl hp)
    · exact cc_held_in hc g (br_f (by decide) (cc_held_out hc h (br_t rfl hp)))
theorem cc_727_out {post : Int32 → St0 → Prop} {mc ms kc ks : Nat} {x2 x3 x4 x8 z0 c : Int32} {l1 l2 l3 l4 l5 l6 : List Nat} (hp : post 1 ()) (hk : cc_kf c l1 l2 l3 l4 l5 l6 = true)
    (h : (x3 < 0 ∨ nI 6 ≤ x3) ∨ (x4 < 0 ∨ nI 6 ≤ x4)) (hz : x8 = 0 ∨ z0 = 0) : wL_lawOf_727 post mc ms x2 x3 x4 x8 z0 kc ks c (cc_F l1) (cc_F l2) (cc_F l3) (cc_F l4) (cc_F l5) (cc_F l6) := by
  have hc : c = 6 := by
    unfold cc_kf at hk
    rw [Bool.and_eq_true] at hk
    exact (cc_eq_p _ _).mp hk.1
  unfold wL_lawOf_727
  refine cc_before_out hc h ?_
  have e : wL_lawOf_769 post mc ms x2 (-1) kc ks c (cc_F l1) (cc_F l2) (cc_F l3) (cc_F l4) (cc_F l5) (cc_F l6) := by
    unfold wL_lawOf_769
    exact br_t rfl (cc_777 hp hk)
  exact br_c (fun _ => e) (fun g => br_t (hz.resolve_left g) e)
theorem cc_727_in {post : Int32 → St0 → Prop} {mc ms kc ks : Nat} {x2 c : Int32} {a b : Nat} {l1 l2 l3 l4 l5 l6 : List Nat} (hp : post 1 ()) (hk : cc_kf c l1 l2 l3 l4 l5 l6 = true)
    (ha : a < 6) (hb : b < 6) : wL_lawOf_727 post mc ms x2 (nI a) (nI b) 1 1 kc ks c (cc_F l1) (cc_F l2) (cc_F l3) (cc_F l4) (cc_F l5) (cc_F l6) := by
  have hk' := hk
  unfold cc_kf at hk'
  rw [Bool.and_eq_true, Bool.and_eq_true, Bool.and_eq_true] at hk'
  obtain ⟨_, _, _, h4⟩ := hk'
  have h5 : cc_p_before (fun r => not (cc_lt r 0) && (not (cc_eq r 1) || Nat.ble (a + 1) b)) c l1 l2 l3 l4 l5 l6 (nI a) (nI b) = true := cc_all_p (cc_all_p h4 a ha) b hb
  unfold wL_lawOf_727
  refine cc_Tp_before h5 (fun r hr => ?_)
  rw [Bool.and_eq_true, Bool.or_eq_true] at hr
  obtain ⟨r0, r1⟩ := hr
  have g0 : ¬ r < 0 := fun z => by
    rw [(cc_lt_p r 0).mpr z] at r0
    exact absurd r0 Bool.false_ne_true
  refine br_f (by decide) (br_f (by decide) (br_f g0 (br_c (fun e => ?_) (fun _ => cc_777 hp hk))))
  have hlt : a + 1 ≤ b := by
    rcases r1 with z | z
    · rw [(cc_eq_p r 1).mpr e] at z
      exact absurd z Bool.false_ne_true
    · exact Nat.le_of_ble_eq_true z
  exact br_t ((nI_ltI (by omega) (by omega)).mpr (by omega)) (cc_777 hp hk)
/-- the last stretch, from where the law asks 'a' -/
def cc_fin (post : Int32 → St0 → Prop) (mc ms : Nat) (x2 x3 x4 : Int32) (kc ks : Nat) (c : Int32) (l1 l2 l3 l4 l5 l6 : List Nat) : Prop :=
  (x3 < 0 → wL_lawOf_708 post mc ms x2 x3 x4 kc ks c (cc_F l1) (cc_F l2) (cc_F l3) (cc_F l4) (cc_F l5) (cc_F l6)) ∧ (¬ x3 < 0 →
    ((5 < x3 → wL_lawOf_708 post mc ms x2 x3 x4 kc ks c (cc_F l1) (cc_F l2) (cc_F l3) (cc_F l4) (cc_F l5) (cc_F l6)) ∧ (¬ 5 < x3 →
      wL_lawOf_709 post mc ms x2 x3 x4 1 kc ks c (cc_F l1) (cc_F l2) (cc_F l3) (cc_F l4) (cc_F l5) (cc_F l6))))
theorem cc_709_out {post : Int32 → St0 → Prop} {mc ms kc ks : Nat} {x2 x3 x4 c : Int32} {l1 l2 l3 l4 l5 l6 : List Nat} (hp : post 1 ()) (hk : cc_kf c l1 l2 l3 l4 l5 l6 = true)
    (h : x3 < 0 ∨ nI 6 ≤ x3) : wL_lawOf_708 post mc ms x2 x3 x4 kc ks c (cc_F l1) (cc_F l2) (cc_F l3) (cc_F l4) (cc_F l5) (cc_F l6) := by
  unfold wL_lawOf_708
  unfold wL_lawOf_709
  have e : wL_lawOf_726 post mc ms x2 x3 x4 0 kc ks c (cc_F l1) (cc_F l2) (cc_F l3) (cc_F l4) (cc_F l5) (cc_F l6) := by
    unfold wL_lawOf_726
    exact cc_727_out hp hk (Or.inl h) (Or.inl rfl)
  exact br_c (fun _ => e) (fun _ => br_c (fun _ => e) (fun _ => cc_727_out hp hk (Or.inl h) (Or.inl rfl)))
theorem cc_709_in {post : Int32 → St0 → Prop} {mc ms kc ks : Nat} {x2 x4 c : Int32} {a : Nat} {l1 l2 l3 l4 l5 l6 : List Nat} (hp : post 1 ()) (hk : cc_kf c l1 l2 l3 l4 l5 l6 = true)
    (ha : a < 6) : wL_lawOf_709 post mc ms x2 (nI a) x4 1 kc ks c (cc_F l1) (cc_F l2) (cc_F l3) (cc_F l4) (cc_F l5) (cc_F l6) := by
  unfold wL_lawOf_709
  rcases cc_out x4 with h | ⟨b, hb, rfl⟩
  · have e : wL_lawOf_726 post mc ms x2 (nI a) x4 1 kc ks c (cc_F l1) (cc_F l2) (cc_F l3) (cc_F l4) (cc_F l5) (cc_F l6) := by
      unfold wL_lawOf_726
      exact cc_727_out hp hk (Or.inr h) (Or.inr rfl)
    exact br_c (fun _ => e) (fun g => br_t (cc_rng_out h g).2 e)
  · obtain ⟨g0, g5, _⟩ := cc_rng_in hb
    exact br_f g0 (br_f g5 (cc_727_in hp hk ha hb))
theorem cc_fin_p {post : Int32 → St0 → Prop} {mc ms kc ks : Nat} {x2 x3 x4 : Int32} (hp : post 1 ()) (c : Int32) (l1 l2 l3 l4 l5 l6 : List Nat) (hk : cc_kf c l1 l2 l3 l4 l5 l6 = true) :
    cc_fin post mc ms x2 x3 x4 kc ks c l1 l2 l3 l4 l5 l6 := by
  unfold cc_fin
  rcases cc_out x3 with h | ⟨a, ha, rfl⟩
  · have e := cc_709_out (mc := mc) (ms := ms) (kc := kc) (ks := ks) (x2 := x2) (x4 := x4) hp hk h
    exact br_c (fun _ => e) (fun g => br_t (cc_rng_out h g).2 e)
  · obtain ⟨g0, g5, _⟩ := cc_rng_in ha
    exact br_f g0 (br_f g5 (cc_709_in hp hk ha))
end
section
def cc_L_lawOf_320 (kf : Int32 → List Nat → List Nat → List Nat → List Nat → List Nat → List Nat → Bool) (x6 : Int32) (z0 : Int32) (z1 : Int32) (fm0_count : Int32) (am3071 : List Nat) (am3072 : List Nat) (am3073 : List Nat) (am3074 : List Nat) (am3075 : List Nat) (am3076 : List Nat) : Bool := cond (cc_eq z1 z0) (cc_p_strong (fun r_458 fm0_count_459 am3261_462 am3262_465 am3263_468 am3264_471 am3265_474 am3266_477 => cond (cc_eq r_458 1) (cc_p_weak (fun r_479 => cond (cc_eq r_479 1) (cc_p_read (fun r_481 fm0_count_482 am3511_485 am3512_488 am3513_491 am3514_494 am3515_497 am3516_500 => cond (cc_eq r_481 6) (cc_p_weak (fun r_502 => cond (cc_eq r_502 0) (cc_p_strong (fun r_504 fm0_count_505 am3731_508 am3732_511 am3733_514 am3734_517 am3735_520 am3736_523 => cond (cc_eq r_504 0) (cc_p_sound (fun r_525 fm0_count_526 am3811_529 am3812_532 am3813_535 am3814_538 am3815_541 am3816_544 => cond (cc_eq r_525 0) (cc_p_read (fun r_546 fm0_count_547 am3931_550 am3932_553 am3933_556 am3934_559 am3935_562 am3936_565 => cond (cc_eq r_546 (- 1)) (cc_p_write (fun r_567 fm0_count_568 am4051_571 am4052_574 am4053_577 am4054_580 am4055_583 am4056_586 => cond (cc_eq r_567 (- 1)) (cc_p_back (fun r_588 fm0_count_589 am4161_592 am4162_595 am4163_598 am4164_601 am4165_604 am4166_607 => cond (cc_eq r_588 6) (cc_p_back (fun r_609 fm0_count_610 am4261_613 am4262_616 am4263_619 am4264_622 am4265_625 am4266_628 => cond (cc_eq r_609 5) (cc_p_back (fun r_630 fm0_count_631 am4351_634 am4352_637 am4353_640 am4354_643 am4355_646 am4356_649 => cond (cc_eq r_630 4) (cc_p_back (fun r_651 fm0_count_652 am4441_655 am4442_658 am4443_661 am4444_664 am4445_667 am4446_670 => cond (cc_eq r_651 3) (cc_p_sound (fun r_672 fm0_count_673 am4531_676 am4532_679 am4533_682 am4534_685 am4535_688 am4536_691 => cond (cc_eq r_672 7) (cc_p_write (fun r_693 fm0_count_694 am4681_697 am4682_700 am4683_703 am4684_706 am4685_709 am4686_712 => cond (cc_eq r_693 3) (cc_p_read (fun r_714 fm0_count_715 am4831_718 am4832_721 am4833_724 am4834_727 am4835_730 am4836_733 => cond (cc_eq r_714 4) (cc_p_before (fun r_735 => cond (cc_eq r_735 1) (cc_p_before (fun r_737 => cond (cc_eq r_737 1) (cc_p_before (fun r_739 => cond (cc_eq r_739 1) (cc_p_before (fun r_741 => cond (cc_eq r_741 0) (cc_p_read (fun r_743 fm0_count_744 am5411_747 am5412_750 am5413_753 am5414_756 am5415_759 am5416_762 => cond (cc_eq r_743 5) (cc_p_weak (fun r_764 => cond (cc_eq r_764 0) (cc_p_back (fun r_766 fm0_count_767 am5591_770 am5592_773 am5593_776 am5594_779 am5595_782 am5596_785 => cond (cc_eq r_766 5) (cc_p_read (fun r_787 fm0_count_788 am5741_791 am5742_794 am5743_797 am5744_800 am5745_803 am5746_806 => cond (cc_eq r_787 5) (cc_p_weak (fun r_808 => cond (cc_eq r_808 1) (cc_p_sound (fun r_810 fm0_count_811 am5931_814 am5932_817 am5933_820 am5934_823 am5935_826 am5936_829 => cond (cc_eq r_810 7) (cc_p_choices (fun r_831 fm0_count_832 am6061_835 am6062_838 am6063_841 am6064_844 am6065_847 am6066_850 => cond (cc_eq r_831 2) (cc_p_choices (fun r_852 fm0_count_853 am6181_856 am6182_859 am6183_862 am6184_865 am6185_868 am6186_871 => cond (cc_eq r_852 3) (cc_p_choices (fun r_873 fm0_count_874 am6301_877 am6302_880 am6303_883 am6304_886 am6305_889 am6306_892 => cond (cc_eq r_873 3) (cc_p_read (fun r_894 fm0_count_895 am6451_898 am6452_901 am6453_904 am6454_907 am6455_910 am6456_913 => cond (cc_eq r_894 (- 1)) (cc_p_read (fun r_915 fm0_count_916 am6581_919 am6582_922 am6583_925 am6584_928 am6585_931 am6586_934 => cond (cc_eq r_915 (- 1)) (cc_p_read (fun r_936 fm0_count_937 am6721_940 am6722_943 am6723_946 am6724_949 am6725_952 am6726_955 => cond (cc_eq r_936 (- 1)) (cc_p_read (fun r_957 fm0_count_958 am6861_961 am6862_964 am6863_967 am6864_970 am6865_973 am6866_976 => cond (cc_eq r_957 (- 1)) (kf fm0_count_958 am6861_961 am6862_964 am6863_967 am6864_970 am6865_973 am6866_976) (false)) fm0_count_937 am6721_940 am6722_943 am6723_946 am6724_949 am6725_952 am6726_955 1 x6 (- 2)) (false)) fm0_count_916 am6581_919 am6582_922 am6583_925 am6584_928 am6585_931 am6586_934 1 x6 6) (false)) fm0_count_895 am6451_898 am6452_901 am6453_904 am6454_907 am6455_910 am6456_913 1 x6 2) (false)) fm0_count_874 am6301_877 am6302_880 am6303_883 am6304_886 am6305_889 am6306_892 1 x6 3) (false)) fm0_count_853 am6181_856 am6182_859 am6183_862 am6184_865 am6185_868 am6186_871 0 x6) (false)) fm0_count_832 am6061_835 am6062_838 am6063_841 am6064_844 am6065_847 am6066_850 2 x6) (false)) fm0_count_811 am5931_814 am5932_817 am5933_820 am5934_823 am5935_826 am5936_829 1 x6) (false)) fm0_count_788 am5741_791 am5742_794 am5743_797 am5744_800 am5745_803 am5746_806) (false)) fm0_count_788 am5741_791 am5742_794 am5743_797 am5744_800 am5745_803 am5746_806 5) (false)) fm0_count_767 am5591_770 am5592_773 am5593_776 am5594_779 am5595_782 am5596_785 1 x6 1) (false)) fm0_count_744 am5411_747 am5412_750 am5413_753 am5414_756 am5415_759 am5416_762) (false)) fm0_count_744 am5411_747 am5412_750 am5413_753 am5414_756 am5415_759 am5416_762 5) (false)) fm0_count_715 am4831_718 am4832_721 am4833_724 am4834_727 am4835_730 am4836_733 1 x6 (- 1)) (false)) fm0_count_715 am4831_718 am4832_721 am4833_724 am4834_727 am4835_730 am4836_733 4 3) (false)) fm0_count_715 am4831_718 am4832_721 am4833_724 am4834_727 am4835_730 am4836_733 1 4) (false)) fm0_count_715 am4831_718 am4832_721 am4833_724 am4834_727 am4835_730 am4836_733 2 4) (false)) fm0_count_715 am4831_718 am4832_721 am4833_724 am4834_727 am4835_730 am4836_733 0 4) (false)) fm0_count_694 am4681_697 am4682_700 am4683_703 am4684_706 am4685_709 am4686_712 1 (1 - x6) 3) (false)) fm0_count_673 am4531_676 am4532_679 am4533_682 am4534_685 am4535_688 am4536_691 2 (1 - x6)) (false)) fm0_count_652 am4441_655 am4442_658 am4443_661 am4444_664 am4445_667 am4446_670) (false)) fm0_count_631 am4351_634 am4352_637 am4353_640 am4354_643 am4355_646 am4356_649) (false)) fm0_count_610 am4261_613 am4262_616 am4263_619 am4264_622 am4265_625 am4266_628) (false)) fm0_count_589 am4161_592 am4162_595 am4163_598 am4164_601 am4165_604 am4166_607) (false)) fm0_count_568 am4051_571 am4052_574 am4053_577 am4054_580 am4055_583 am4056_586) (false)) fm0_count_547 am3931_550 am3932_553 am3933_556 am3934_559 am3935_562 am3936_565 0 x6) (false)) fm0_count_526 am3811_529 am3812_532 am3813_535 am3814_538 am3815_541 am3816_544 0 x6 0) (false)) fm0_count_505 am3731_508 am3732_511 am3733_514 am3734_517 am3735_520 am3736_523) (false)) fm0_count_482 am3511_485 am3512_488 am3513_491 am3514_494 am3515_497 am3516_500 6) (false)) fm0_count_482 am3511_485 am3512_488 am3513_491 am3514_494 am3515_497 am3516_500 6) (false)) fm0_count_459 am3261_462 am3262_465 am3263_468 am3264_471 am3265_474 am3266_477 0 x6 (- 1)) (false)) fm0_count_459 am3261_462 am3262_465 am3263_468 am3264_471 am3265_474 am3266_477 5) (false)) fm0_count am3071 am3072 am3073 am3074 am3075 am3076 4) (false)
theorem cc_TL_lawOf_320 {kf : Int32 → List Nat → List Nat → List Nat → List Nat → List Nat → List Nat → Bool} {post : Int32 → St0 → Prop} {mc : Nat} {ms : Nat} {x2 : Int32} {x3 : Int32} {x4 : Int32} {x6 : Int32} {z0 : Int32} {z1 : Int32} {kc : Nat} {ks : Nat} {fm0_count : Int32} {am3071 : List Nat} {am3072 : List Nat} {am3073 : List Nat} {am3074 : List Nat} {am3075 : List Nat} {am3076 : List Nat} (h : cc_L_lawOf_320 kf x6 z0 z1 fm0_count am3071 am3072 am3073 am3074 am3075 am3076 = true) (hF : ∀ (c : Int32) (l1 l2 l3 l4 l5 l6 : List Nat), kf c l1 l2 l3 l4 l5 l6 = true → cc_fin post mc ms x2 x3 x4 kc ks c l1 l2 l3 l4 l5 l6) : wL_lawOf_320 post mc ms x2 x3 x4 x6 z0 z1 kc ks fm0_count (cc_F am3071) (cc_F am3072) (cc_F am3073) (cc_F am3074) (cc_F am3075) (cc_F am3076) := by
  unfold cc_L_lawOf_320 at h
  unfold wL_lawOf_320
  exact cc_if (cc_eq_p _ _) h (fun h => cc_Tp_strong h (fun r_458 fm0_count_459 am3261_462 am3262_465 am3263_468 am3264_471 am3265_474 am3266_477 h => cc_if (cc_eq_p _ _) h (fun h => cc_Tp_weak h (fun r_479 h => cc_if (cc_eq_p _ _) h (fun h => cc_Tp_read h (fun r_481 fm0_count_482 am3511_485 am3512_488 am3513_491 am3514_494 am3515_497 am3516_500 h => cc_if (cc_eq_p _ _) h (fun h => cc_Tp_weak h (fun r_502 h => cc_if (cc_eq_p _ _) h (fun h => cc_Tp_strong h (fun r_504 fm0_count_505 am3731_508 am3732_511 am3733_514 am3734_517 am3735_520 am3736_523 h => cc_if (cc_eq_p _ _) h (fun h => cc_Tp_sound h (fun r_525 fm0_count_526 am3811_529 am3812_532 am3813_535 am3814_538 am3815_541 am3816_544 h => cc_if (cc_eq_p _ _) h (fun h => cc_Tp_read h (fun r_546 fm0_count_547 am3931_550 am3932_553 am3933_556 am3934_559 am3935_562 am3936_565 h => cc_if (cc_eq_p _ _) h (fun h => cc_Tp_write h (fun r_567 fm0_count_568 am4051_571 am4052_574 am4053_577 am4054_580 am4055_583 am4056_586 h => cc_if (cc_eq_p _ _) h (fun h => cc_Tp_back h (fun r_588 fm0_count_589 am4161_592 am4162_595 am4163_598 am4164_601 am4165_604 am4166_607 h => cc_if (cc_eq_p _ _) h (fun h => cc_Tp_back h (fun r_609 fm0_count_610 am4261_613 am4262_616 am4263_619 am4264_622 am4265_625 am4266_628 h => cc_if (cc_eq_p _ _) h (fun h => cc_Tp_back h (fun r_630 fm0_count_631 am4351_634 am4352_637 am4353_640 am4354_643 am4355_646 am4356_649 h => cc_if (cc_eq_p _ _) h (fun h => cc_Tp_back h (fun r_651 fm0_count_652 am4441_655 am4442_658 am4443_661 am4444_664 am4445_667 am4446_670 h => cc_if (cc_eq_p _ _) h (fun h => cc_Tp_sound h (fun r_672 fm0_count_673 am4531_676 am4532_679 am4533_682 am4534_685 am4535_688 am4536_691 h => cc_if (cc_eq_p _ _) h (fun h => cc_Tp_write h (fun r_693 fm0_count_694 am4681_697 am4682_700 am4683_703 am4684_706 am4685_709 am4686_712 h => cc_if (cc_eq_p _ _) h (fun h => cc_Tp_read h (fun r_714 fm0_count_715 am4831_718 am4832_721 am4833_724 am4834_727 am4835_730 am4836_733 h => cc_if (cc_eq_p _ _) h (fun h => cc_Tp_before h (fun r_735 h => cc_if (cc_eq_p _ _) h (fun h => cc_Tp_before h (fun r_737 h => cc_if (cc_eq_p _ _) h (fun h => cc_Tp_before h (fun r_739 h => cc_if (cc_eq_p _ _) h (fun h => cc_Tp_before h (fun r_741 h => cc_if (cc_eq_p _ _) h (fun h => cc_Tp_read h (fun r_743 fm0_count_744 am5411_747 am5412_750 am5413_753 am5414_756 am5415_759 am5416_762 h => cc_if (cc_eq_p _ _) h (fun h => cc_Tp_weak h (fun r_764 h => cc_if (cc_eq_p _ _) h (fun h => cc_Tp_back h (fun r_766 fm0_count_767 am5591_770 am5592_773 am5593_776 am5594_779 am5595_782 am5596_785 h => cc_if (cc_eq_p _ _) h (fun h => cc_Tp_read h (fun r_787 fm0_count_788 am5741_791 am5742_794 am5743_797 am5744_800 am5745_803 am5746_806 h => cc_if (cc_eq_p _ _) h (fun h => cc_Tp_weak h (fun r_808 h => cc_if (cc_eq_p _ _) h (fun h => cc_Tp_sound h (fun r_810 fm0_count_811 am5931_814 am5932_817 am5933_820 am5934_823 am5935_826 am5936_829 h => cc_if (cc_eq_p _ _) h (fun h => cc_Tp_choices h (fun r_831 fm0_count_832 am6061_835 am6062_838 am6063_841 am6064_844 am6065_847 am6066_850 h => cc_if (cc_eq_p _ _) h (fun h => cc_Tp_choices h (fun r_852 fm0_count_853 am6181_856 am6182_859 am6183_862 am6184_865 am6185_868 am6186_871 h => cc_if (cc_eq_p _ _) h (fun h => cc_Tp_choices h (fun r_873 fm0_count_874 am6301_877 am6302_880 am6303_883 am6304_886 am6305_889 am6306_892 h => cc_if (cc_eq_p _ _) h (fun h => cc_Tp_read h (fun r_894 fm0_count_895 am6451_898 am6452_901 am6453_904 am6454_907 am6455_910 am6456_913 h => cc_if (cc_eq_p _ _) h (fun h => cc_Tp_read h (fun r_915 fm0_count_916 am6581_919 am6582_922 am6583_925 am6584_928 am6585_931 am6586_934 h => cc_if (cc_eq_p _ _) h (fun h => cc_Tp_read h (fun r_936 fm0_count_937 am6721_940 am6722_943 am6723_946 am6724_949 am6725_952 am6726_955 h => cc_if (cc_eq_p _ _) h (fun h => cc_Tp_read h (fun r_957 fm0_count_958 am6861_961 am6862_964 am6863_967 am6864_970 am6865_973 am6866_976 h => cc_if (cc_eq_p _ _) h (fun h => hF _ _ _ _ _ _ _ h) (fun h => absurd h Bool.false_ne_true))) (fun h => absurd h Bool.false_ne_true))) (fun h => absurd h Bool.false_ne_true))) (fun h => absurd h Bool.false_ne_true))) (fun h => absurd h Bool.false_ne_true))) (fun h => absurd h Bool.false_ne_true))) (fun h => absurd h Bool.false_ne_true))) (fun h => absurd h Bool.false_ne_true))) (fun h => absurd h Bool.false_ne_true))) (fun h => absurd h Bool.false_ne_true))) (fun h => absurd h Bool.false_ne_true))) (fun h => absurd h Bool.false_ne_true))) (fun h => absurd h Bool.false_ne_true))) (fun h => absurd h Bool.false_ne_true))) (fun h => absurd h Bool.false_ne_true))) (fun h => absurd h Bool.false_ne_true))) (fun h => absurd h Bool.false_ne_true))) (fun h => absurd h Bool.false_ne_true))) (fun h => absurd h Bool.false_ne_true))) (fun h => absurd h Bool.false_ne_true))) (fun h => absurd h Bool.false_ne_true))) (fun h => absurd h Bool.false_ne_true))) (fun h => absurd h Bool.false_ne_true))) (fun h => absurd h Bool.false_ne_true))) (fun h => absurd h Bool.false_ne_true))) (fun h => absurd h Bool.false_ne_true))) (fun h => absurd h Bool.false_ne_true))) (fun h => absurd h Bool.false_ne_true))) (fun h => absurd h Bool.false_ne_true))) (fun h => absurd h Bool.false_ne_true))) (fun h => absurd h Bool.false_ne_true))) (fun h => absurd h Bool.false_ne_true))) (fun h => absurd h Bool.false_ne_true)
def cc_L_lawOf_301 (kf : Int32 → List Nat → List Nat → List Nat → List Nat → List Nat → List Nat → Bool) (x6 : Int32) (x7 : Int32) (z0 : Int32) (z1 : Int32) (fm0_count : Int32) (am2871 : List Nat) (am2872 : List Nat) (am2873 : List Nat) (am2874 : List Nat) (am2875 : List Nat) (am2876 : List Nat) : Bool := cond (cc_eq z1 z0) (cc_p_strong (fun r_436 fm0_count_437 am3071_440 am3072_443 am3073_446 am3074_449 am3075_452 am3076_455 => cond (cc_eq x7 0) (cc_L_lawOf_320 kf x6 1 r_436 fm0_count_437 am3071_440 am3072_443 am3073_446 am3074_449 am3075_452 am3076_455) (cc_L_lawOf_320 kf x6 0 r_436 fm0_count_437 am3071_440 am3072_443 am3073_446 am3074_449 am3075_452 am3076_455)) fm0_count am2871 am2872 am2873 am2874 am2875 am2876 5) (false)
theorem cc_TL_lawOf_301 {kf : Int32 → List Nat → List Nat → List Nat → List Nat → List Nat → List Nat → Bool} {post : Int32 → St0 → Prop} {mc : Nat} {ms : Nat} {x2 : Int32} {x3 : Int32} {x4 : Int32} {x6 : Int32} {x7 : Int32} {z0 : Int32} {z1 : Int32} {kc : Nat} {ks : Nat} {fm0_count : Int32} {am2871 : List Nat} {am2872 : List Nat} {am2873 : List Nat} {am2874 : List Nat} {am2875 : List Nat} {am2876 : List Nat} (h : cc_L_lawOf_301 kf x6 x7 z0 z1 fm0_count am2871 am2872 am2873 am2874 am2875 am2876 = true) (hF : ∀ (c : Int32) (l1 l2 l3 l4 l5 l6 : List Nat), kf c l1 l2 l3 l4 l5 l6 = true → cc_fin post mc ms x2 x3 x4 kc ks c l1 l2 l3 l4 l5 l6) : wL_lawOf_301 post mc ms x2 x3 x4 x6 x7 z0 z1 kc ks fm0_count (cc_F am2871) (cc_F am2872) (cc_F am2873) (cc_F am2874) (cc_F am2875) (cc_F am2876) := by
  unfold cc_L_lawOf_301 at h
  unfold wL_lawOf_301
  exact cc_if (cc_eq_p _ _) h (fun h => cc_Tp_strong h (fun r_436 fm0_count_437 am3071_440 am3072_443 am3073_446 am3074_449 am3075_452 am3076_455 h => cc_if (cc_eq_p _ _) h (fun h => cc_TL_lawOf_320 h hF) (fun h => cc_TL_lawOf_320 h hF))) (fun h => absurd h Bool.false_ne_true)
def cc_L_lawOf_276 (kf : Int32 → List Nat → List Nat → List Nat → List Nat → List Nat → List Nat → Bool) (x6 : Int32) (x7 : Int32) (z0 : Int32) (z1 : Int32) (z2 : Int32) (fm0_count : Int32) (am2541 : List Nat) (am2542 : List Nat) (am2543 : List Nat) (am2544 : List Nat) (am2545 : List Nat) (am2546 : List Nat) : Bool := cc_p_read (fun r_393 fm0_count_394 am2761_397 am2762_400 am2763_403 am2764_406 am2765_409 am2766_412 => cond (cc_eq r_393 5) (cc_p_sound (fun r_414 fm0_count_415 am2871_418 am2872_421 am2873_424 am2874_427 am2875_430 am2876_433 => cond (cc_eq x7 0) (cc_L_lawOf_301 kf x6 x7 7 r_414 fm0_count_415 am2871_418 am2872_421 am2873_424 am2874_427 am2875_430 am2876_433) (cc_L_lawOf_301 kf x6 x7 1 r_414 fm0_count_415 am2871_418 am2872_421 am2873_424 am2874_427 am2875_430 am2876_433)) fm0_count_394 am2761_397 am2762_400 am2763_403 am2764_406 am2765_409 am2766_412) (false)) fm0_count am2541 am2542 am2543 am2544 am2545 am2546 z2 z1 z0
theorem cc_TL_lawOf_276 {kf : Int32 → List Nat → List Nat → List Nat → List Nat → List Nat → List Nat → Bool} {post : Int32 → St0 → Prop} {mc : Nat} {ms : Nat} {x2 : Int32} {x3 : Int32} {x4 : Int32} {x6 : Int32} {x7 : Int32} {z0 : Int32} {z1 : Int32} {z2 : Int32} {kc : Nat} {ks : Nat} {fm0_count : Int32} {am2541 : List Nat} {am2542 : List Nat} {am2543 : List Nat} {am2544 : List Nat} {am2545 : List Nat} {am2546 : List Nat} (h : cc_L_lawOf_276 kf x6 x7 z0 z1 z2 fm0_count am2541 am2542 am2543 am2544 am2545 am2546 = true) (hF : ∀ (c : Int32) (l1 l2 l3 l4 l5 l6 : List Nat), kf c l1 l2 l3 l4 l5 l6 = true → cc_fin post mc ms x2 x3 x4 kc ks c l1 l2 l3 l4 l5 l6) : wL_lawOf_276 post mc ms x2 x3 x4 x6 x7 z0 z1 z2 kc ks fm0_count (cc_F am2541) (cc_F am2542) (cc_F am2543) (cc_F am2544) (cc_F am2545) (cc_F am2546) := by
  unfold cc_L_lawOf_276 at h
  unfold wL_lawOf_276
  exact cc_Tp_read h (fun r_393 fm0_count_394 am2761_397 am2762_400 am2763_403 am2764_406 am2765_409 am2766_412 h => cc_if (cc_eq_p _ _) h (fun h => cc_Tp_sound h (fun r_414 fm0_count_415 am2871_418 am2872_421 am2873_424 am2874_427 am2875_430 am2876_433 h => cc_if (cc_eq_p _ _) h (fun h => cc_TL_lawOf_301 h hF) (fun h => cc_TL_lawOf_301 h hF))) (fun h => absurd h Bool.false_ne_true))
def cc_L_lawOf_254 (kf : Int32 → List Nat → List Nat → List Nat → List Nat → List Nat → List Nat → Bool) (x6 : Int32) (x7 : Int32) (z0 : Int32) (z1 : Int32) (z2 : Int32) (fm0_count : Int32) (am2301 : List Nat) (am2302 : List Nat) (am2303 : List Nat) (am2304 : List Nat) (am2305 : List Nat) (am2306 : List Nat) : Bool := cc_p_read (fun r_371 fm0_count_372 am2541_375 am2542_378 am2543_381 am2544_384 am2545_387 am2546_390 => cond (cc_eq r_371 4) (cond (cc_eq x7 0) (cc_L_lawOf_276 kf x6 x7 1 x6 0 fm0_count_372 am2541_375 am2542_378 am2543_381 am2544_384 am2545_387 am2546_390) (cc_L_lawOf_276 kf x6 x7 0 x6 0 fm0_count_372 am2541_375 am2542_378 am2543_381 am2544_384 am2545_387 am2546_390)) (false)) fm0_count am2301 am2302 am2303 am2304 am2305 am2306 z2 z1 z0
theorem cc_TL_lawOf_254 {kf : Int32 → List Nat → List Nat → List Nat → List Nat → List Nat → List Nat → Bool} {post : Int32 → St0 → Prop} {mc : Nat} {ms : Nat} {x2 : Int32} {x3 : Int32} {x4 : Int32} {x6 : Int32} {x7 : Int32} {z0 : Int32} {z1 : Int32} {z2 : Int32} {kc : Nat} {ks : Nat} {fm0_count : Int32} {am2301 : List Nat} {am2302 : List Nat} {am2303 : List Nat} {am2304 : List Nat} {am2305 : List Nat} {am2306 : List Nat} (h : cc_L_lawOf_254 kf x6 x7 z0 z1 z2 fm0_count am2301 am2302 am2303 am2304 am2305 am2306 = true) (hF : ∀ (c : Int32) (l1 l2 l3 l4 l5 l6 : List Nat), kf c l1 l2 l3 l4 l5 l6 = true → cc_fin post mc ms x2 x3 x4 kc ks c l1 l2 l3 l4 l5 l6) : wL_lawOf_254 post mc ms x2 x3 x4 x6 x7 z0 z1 z2 kc ks fm0_count (cc_F am2301) (cc_F am2302) (cc_F am2303) (cc_F am2304) (cc_F am2305) (cc_F am2306) := by
  unfold cc_L_lawOf_254 at h
  unfold wL_lawOf_254
  exact cc_Tp_read h (fun r_371 fm0_count_372 am2541_375 am2542_378 am2543_381 am2544_384 am2545_387 am2546_390 h => cc_if (cc_eq_p _ _) h (fun h => cc_if (cc_eq_p _ _) h (fun h => cc_TL_lawOf_276 h hF) (fun h => cc_TL_lawOf_276 h hF)) (fun h => absurd h Bool.false_ne_true))
def cc_L_lawOf_25 (kf : Int32 → List Nat → List Nat → List Nat → List Nat → List Nat → List Nat → Bool) (x6 : Int32) (z0 : Int32) (fm0_count : Int32) (am41 : List Nat) (am42 : List Nat) (am43 : List Nat) (am44 : List Nat) (am45 : List Nat) (am46 : List Nat) : Bool := cc_p_write (fun r_30 fm0_count_31 am321_34 am322_37 am323_40 am324_43 am325_46 am326_49 => cond (cc_eq r_30 0) (cc_p_write (fun r_51 fm0_count_52 am431_55 am432_58 am433_61 am434_64 am435_67 am436_70 => cond (cc_eq r_51 1) (cc_p_read (fun r_72 fm0_count_73 am561_76 am562_79 am563_82 am564_85 am565_88 am566_91 => cond (cc_eq r_72 2) (cc_p_read (fun r_93 fm0_count_94 am691_97 am692_100 am693_103 am694_106 am695_109 am696_112 => cond (cc_eq r_93 3) (cc_p_sound (fun r_114 fm0_count_115 am781_118 am782_121 am783_124 am784_127 am785_130 am786_133 => cond (cc_eq r_114 7) (cc_p_choices (fun r_135 fm0_count_136 am911_139 am912_142 am913_145 am914_148 am915_151 am916_154 => cond (cc_eq r_135 2) (cc_p_read (fun r_156 fm0_count_157 am1061_160 am1062_163 am1063_166 am1064_169 am1065_172 am1066_175 => cond (cc_eq r_156 4) (cc_p_before (fun r_177 => cond (cc_eq r_177 1) (cc_p_weak (fun r_179 => cond (cc_eq r_179 1) (cc_p_sound (fun r_181 fm0_count_182 am1361_185 am1362_188 am1363_191 am1364_194 am1365_197 am1366_200 => cond (cc_eq r_181 3) (cc_p_choices (fun r_202 fm0_count_203 am1481_206 am1482_209 am1483_212 am1484_215 am1485_218 am1486_221 => cond (cc_eq r_202 0) (cc_p_back (fun r_223 fm0_count_224 am1561_227 am1562_230 am1563_233 am1564_236 am1565_239 am1566_242 => cond (cc_eq r_223 4) (cc_p_sound (fun r_244 fm0_count_245 am1651_248 am1652_251 am1653_254 am1654_257 am1655_260 am1656_263 => cond (cc_eq r_244 7) (cc_p_choices (fun r_265 fm0_count_266 am1801_269 am1802_272 am1803_275 am1804_278 am1805_281 am1806_284 => cond (cc_eq r_265 3) (cc_p_choices (fun r_286 fm0_count_287 am1921_290 am1922_293 am1923_296 am1924_299 am1925_302 am1926_305 => cond (cc_eq r_286 2) (cc_p_choices (fun r_307 fm0_count_308 am2061_311 am2062_314 am2063_317 am2064_320 am2065_323 am2066_326 => cond (cc_eq r_307 128) (cc_p_choices (fun r_328 fm0_count_329 am2191_332 am2192_335 am2193_338 am2194_341 am2195_344 am2196_347 => cond (cc_eq r_328 (- 1)) (cc_p_choices (fun r_349 fm0_count_350 am2301_353 am2302_356 am2303_359 am2304_362 am2305_365 am2306_368 => cond (cc_eq r_349 (- 1)) (cond (cc_eq z0 0) (cc_L_lawOf_254 kf x6 z0 0 x6 0 fm0_count_350 am2301_353 am2302_356 am2303_359 am2304_362 am2305_365 am2306_368) (cc_L_lawOf_254 kf x6 z0 1 x6 0 fm0_count_350 am2301_353 am2302_356 am2303_359 am2304_362 am2305_365 am2306_368)) (false)) fm0_count_329 am2191_332 am2192_335 am2193_338 am2194_341 am2195_344 am2196_347 3 0) (false)) fm0_count_308 am2061_311 am2062_314 am2063_317 am2064_320 am2065_323 am2066_326 1 2) (false)) fm0_count_287 am1921_290 am1922_293 am1923_296 am1924_299 am1925_302 am1926_305 0 (1 - x6)) (false)) fm0_count_266 am1801_269 am1802_272 am1803_275 am1804_278 am1805_281 am1806_284 1 x6) (false)) fm0_count_245 am1651_248 am1652_251 am1653_254 am1654_257 am1655_260 am1656_263 0 x6) (false)) fm0_count_224 am1561_227 am1562_230 am1563_233 am1564_236 am1565_239 am1566_242) (false)) fm0_count_203 am1481_206 am1482_209 am1483_212 am1484_215 am1485_218 am1486_221) (false)) fm0_count_182 am1361_185 am1362_188 am1363_191 am1364_194 am1365_197 am1366_200 0 x6) (false)) fm0_count_157 am1061_160 am1062_163 am1063_166 am1064_169 am1065_172 am1066_175) (false)) fm0_count_157 am1061_160 am1062_163 am1063_166 am1064_169 am1065_172 am1066_175 4) (false)) fm0_count_157 am1061_160 am1062_163 am1063_166 am1064_169 am1065_172 am1066_175 1 4) (false)) fm0_count_136 am911_139 am912_142 am913_145 am914_148 am915_151 am916_154 1 x6 0) (false)) fm0_count_115 am781_118 am782_121 am783_124 am784_127 am785_130 am786_133 2 x6) (false)) fm0_count_94 am691_97 am692_100 am693_103 am694_106 am695_109 am696_112) (false)) fm0_count_73 am561_76 am562_79 am563_82 am564_85 am565_88 am566_91 2 x6 1) (false)) fm0_count_52 am431_55 am432_58 am433_61 am434_64 am435_67 am436_70 2 x6 0) (false)) fm0_count_31 am321_34 am322_37 am323_40 am324_43 am325_46 am326_49 1 x6) (false)) fm0_count am41 am42 am43 am44 am45 am46 0 x6
theorem cc_TL_lawOf_25 {kf : Int32 → List Nat → List Nat → List Nat → List Nat → List Nat → List Nat → Bool} {post : Int32 → St0 → Prop} {mc : Nat} {ms : Nat} {x2 : Int32} {x3 : Int32} {x4 : Int32} {x6 : Int32} {z0 : Int32} {kc : Nat} {ks : Nat} {fm0_count : Int32} {am41 : List Nat} {am42 : List Nat} {am43 : List Nat} {am44 : List Nat} {am45 : List Nat} {am46 : List Nat} (h : cc_L_lawOf_25 kf x6 z0 fm0_count am41 am42 am43 am44 am45 am46 = true) (hF : ∀ (c : Int32) (l1 l2 l3 l4 l5 l6 : List Nat), kf c l1 l2 l3 l4 l5 l6 = true → cc_fin post mc ms x2 x3 x4 kc ks c l1 l2 l3 l4 l5 l6) : wL_lawOf_25 post mc ms x2 x3 x4 x6 z0 kc ks fm0_count (cc_F am41) (cc_F am42) (cc_F am43) (cc_F am44) (cc_F am45) (cc_F am46) := by
  unfold cc_L_lawOf_25 at h
  unfold wL_lawOf_25
  exact cc_Tp_write h (fun r_30 fm0_count_31 am321_34 am322_37 am323_40 am324_43 am325_46 am326_49 h => cc_if (cc_eq_p _ _) h (fun h => cc_Tp_write h (fun r_51 fm0_count_52 am431_55 am432_58 am433_61 am434_64 am435_67 am436_70 h => cc_if (cc_eq_p _ _) h (fun h => cc_Tp_read h (fun r_72 fm0_count_73 am561_76 am562_79 am563_82 am564_85 am565_88 am566_91 h => cc_if (cc_eq_p _ _) h (fun h => cc_Tp_read h (fun r_93 fm0_count_94 am691_97 am692_100 am693_103 am694_106 am695_109 am696_112 h => cc_if (cc_eq_p _ _) h (fun h => cc_Tp_sound h (fun r_114 fm0_count_115 am781_118 am782_121 am783_124 am784_127 am785_130 am786_133 h => cc_if (cc_eq_p _ _) h (fun h => cc_Tp_choices h (fun r_135 fm0_count_136 am911_139 am912_142 am913_145 am914_148 am915_151 am916_154 h => cc_if (cc_eq_p _ _) h (fun h => cc_Tp_read h (fun r_156 fm0_count_157 am1061_160 am1062_163 am1063_166 am1064_169 am1065_172 am1066_175 h => cc_if (cc_eq_p _ _) h (fun h => cc_Tp_before h (fun r_177 h => cc_if (cc_eq_p _ _) h (fun h => cc_Tp_weak h (fun r_179 h => cc_if (cc_eq_p _ _) h (fun h => cc_Tp_sound h (fun r_181 fm0_count_182 am1361_185 am1362_188 am1363_191 am1364_194 am1365_197 am1366_200 h => cc_if (cc_eq_p _ _) h (fun h => cc_Tp_choices h (fun r_202 fm0_count_203 am1481_206 am1482_209 am1483_212 am1484_215 am1485_218 am1486_221 h => cc_if (cc_eq_p _ _) h (fun h => cc_Tp_back h (fun r_223 fm0_count_224 am1561_227 am1562_230 am1563_233 am1564_236 am1565_239 am1566_242 h => cc_if (cc_eq_p _ _) h (fun h => cc_Tp_sound h (fun r_244 fm0_count_245 am1651_248 am1652_251 am1653_254 am1654_257 am1655_260 am1656_263 h => cc_if (cc_eq_p _ _) h (fun h => cc_Tp_choices h (fun r_265 fm0_count_266 am1801_269 am1802_272 am1803_275 am1804_278 am1805_281 am1806_284 h => cc_if (cc_eq_p _ _) h (fun h => cc_Tp_choices h (fun r_286 fm0_count_287 am1921_290 am1922_293 am1923_296 am1924_299 am1925_302 am1926_305 h => cc_if (cc_eq_p _ _) h (fun h => cc_Tp_choices h (fun r_307 fm0_count_308 am2061_311 am2062_314 am2063_317 am2064_320 am2065_323 am2066_326 h => cc_if (cc_eq_p _ _) h (fun h => cc_Tp_choices h (fun r_328 fm0_count_329 am2191_332 am2192_335 am2193_338 am2194_341 am2195_344 am2196_347 h => cc_if (cc_eq_p _ _) h (fun h => cc_Tp_choices h (fun r_349 fm0_count_350 am2301_353 am2302_356 am2303_359 am2304_362 am2305_365 am2306_368 h => cc_if (cc_eq_p _ _) h (fun h => cc_if (cc_eq_p _ _) h (fun h => cc_TL_lawOf_254 h hF) (fun h => cc_TL_lawOf_254 h hF)) (fun h => absurd h Bool.false_ne_true))) (fun h => absurd h Bool.false_ne_true))) (fun h => absurd h Bool.false_ne_true))) (fun h => absurd h Bool.false_ne_true))) (fun h => absurd h Bool.false_ne_true))) (fun h => absurd h Bool.false_ne_true))) (fun h => absurd h Bool.false_ne_true))) (fun h => absurd h Bool.false_ne_true))) (fun h => absurd h Bool.false_ne_true))) (fun h => absurd h Bool.false_ne_true))) (fun h => absurd h Bool.false_ne_true))) (fun h => absurd h Bool.false_ne_true))) (fun h => absurd h Bool.false_ne_true))) (fun h => absurd h Bool.false_ne_true))) (fun h => absurd h Bool.false_ne_true))) (fun h => absurd h Bool.false_ne_true))) (fun h => absurd h Bool.false_ne_true))) (fun h => absurd h Bool.false_ne_true))
end
section
/-- the law's concrete stretch, cell 0, how 0, worked out -/
theorem cc_run00 : cc_L_lawOf_25 cc_kf 0 0 0 [] [] [] [] [] [] = true := by decide +kernel
end
section
/-- the law's concrete stretch, cell 0, how 1, worked out -/
theorem cc_run01 : cc_L_lawOf_25 cc_kf 0 1 0 [] [] [] [] [] [] = true := by decide +kernel
end
section
/-- the law's concrete stretch, cell 1, how 0, worked out -/
theorem cc_run10 : cc_L_lawOf_25 cc_kf 1 0 0 [] [] [] [] [] [] = true := by decide +kernel
end
section
/-- the law's concrete stretch, cell 1, how 1, worked out -/
theorem cc_run11 : cc_L_lawOf_25 cc_kf 1 1 0 [] [] [] [] [] [] = true := by decide +kernel
end
section
theorem cc_cell {post : Int32 → Prop} {L : Nat} {xs : Nat → Int32} {j : Nat} (hL : L ≤ 5) (hj : j < 5) (H : ∀ v, post v) : wpL_cellAt post L xs () (nI j) := by
  unfold wpL_cellAt
  refine br_c (fun _ => H _) (fun h => ⟨vp_in_nI ?_ (by omega), H _⟩)
  have h' : ¬ nI L ≤ nI j := h
  rw [nI_leI (by omega) (by omega)] at h'
  omega
theorem cc_25 {post : Int32 → St0 → Prop} {mc ms kc ks : Nat} {x2 x3 x4 x6 z0 : Int32} (hp : post 1 ()) (hx : x6 = 0 ∨ x6 = 1) (hz : z0 = 0 ∨ z0 = 1) :
    wL_lawOf_25 post mc ms x2 x3 x4 x6 z0 kc ks 0 (fun _ => 0) (fun _ => 0) (fun _ => 0) (fun _ => 0) (fun _ => 0) (fun _ => 0) := by
  have e : (fun _ => 0 : Nat → Int32) = cc_F [] := by
    funext j
    rfl
  rw [e]
  rcases hx with rfl | rfl <;> rcases hz with rfl | rfl
  · exact cc_TL_lawOf_25 cc_run00 (cc_fin_p hp)
  · exact cc_TL_lawOf_25 cc_run01 (cc_fin_p hp)
  · exact cc_TL_lawOf_25 cc_run10 (cc_fin_p hp)
  · exact cc_TL_lawOf_25 cc_run11 (cc_fin_p hp)
theorem cc_law (post : Int32 → St0 → Prop) (p0 p1 p2 p3 p4 : Int32) (hp : post 1 ()) : wpL_lawOf post 38 608 () p0 p1 p2 p3 p4 := by
  have hx : p1 &&& 1 = 0 ∨ p1 &&& 1 = 1 := by
    obtain ⟨j, hj, e⟩ := pk_andE p1 (m := 1) 1 (by decide)
    match j, hj with
    | 0, _ => exact Or.inl e
    | 1, _ => exact Or.inr e
  unfold wpL_lawOf
  refine ⟨by omega, by omega, 6, 48, by omega, by omega, ?_⟩
  unfold wpX_init
  refine ⟨by omega, by omega, by omega, by omega, by omega, by omega, by omega, by omega, by omega, by omega, by omega, by omega, ?_⟩
  refine nm_e (br_c (fun _ => cc_25 hp hx (Or.inl rfl)) (fun _ => cc_25 hp hx (Or.inr rfl)))
theorem i_vc (xs : Nat → Int32) (L : Nat) (hL : L ≤ 5) : wpL_law (fun r => r = 1) L xs := by
  unfold wpL_law
  refine cc_cell (j := 0) hL (by omega) (fun r1 => ?_)
  refine cc_cell (j := 1) hL (by omega) (fun r2 => ?_)
  refine cc_cell (j := 2) hL (by omega) (fun r3 => ?_)
  refine cc_cell (j := 3) hL (by omega) (fun r4 => ?_)
  refine cc_cell (j := 4) hL (by omega) (fun r5 => ?_)
  exact ⟨38, 608, by omega, by omega, cc_law _ r1 r2 r3 r4 r5 rfl⟩
end

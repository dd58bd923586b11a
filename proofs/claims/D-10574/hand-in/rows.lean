section
/-! codes of values: n < 2^30 is the known value n - 16; 2^30 + q a symbol; 2^31 and more: unknown -/
noncomputable def ab_ite {α : Type} (c : Bool) (t f : α) : α := Bool.rec f t c
theorem ab_ite_t {α : Type} (t f : α) : ab_ite true t f = t := rfl
theorem ab_ite_f {α : Type} (t f : α) : ab_ite false t f = f := rfl
theorem ab_ite_eq {α : Type} (c : Bool) (t f : α) : ab_ite c t f = if c = true then t else f := by cases c <;> rfl
/-- least value of a symbol, shifted by 2^31 -/
noncomputable def ab_slo (q : Nat) : Nat :=
  ab_ite (Nat.beq q 0) 2147483648 (ab_ite (Nat.beq q 4) 2147483648 (ab_ite (Nat.beq q 5) 2147483648 (ab_ite (Nat.beq q 14) 2147483648
  (ab_ite (Nat.beq q 9) 2147483653 (ab_ite (Nat.beq q 11) 2147483656 (ab_ite (Nat.beq q 16) 2147483748 (ab_ite (Nat.beq q 18) 2147483792 0)))))))
/-- greatest value of a symbol, shifted by 2^31 -/
noncomputable def ab_shi (q : Nat) : Nat :=
  ab_ite (Nat.beq q 0) 2147483747 (ab_ite (Nat.beq q 4) 2147483652 (ab_ite (Nat.beq q 5) 2147483655 (ab_ite (Nat.beq q 14) 2147483651
  (ab_ite (Nat.beq q 8) 2147483647 (ab_ite (Nat.beq q 10) 2147483647 (ab_ite (Nat.beq q 15) 2147483647 (ab_ite (Nat.beq q 17) 2147483647 4294967295)))))))
/-- a symbol's value -/
def ab_sy (e : Nat → Int32) (q : Nat) : Int32 := if q = 6 then 3 * e 1 else if q = 7 then e 5 + 3 * e 1 else e q
def ab_rv (e : Nat → Int32) (n : Nat) (v : Int32) : Prop :=
  (n < 1073741824 → v = nI n - 16) ∧ (1073741824 ≤ n → n < 2147483648 → v = ab_sy e (n - 1073741824) ∧ (ab_slo (n - 1073741824) : Int) ≤ v.toInt + 2147483648 ∧ v.toInt + 2147483648 ≤ (ab_shi (n - 1073741824) : Int))
theorem ab_h16 : nI 16 = 16 := rfl
theorem ab_unk {e : Nat → Int32} {v : Int32} : ab_rv e 2147483648 v := ⟨fun h => absurd h (by omega), fun _ h => absurd h (by omega)⟩
theorem ab_nn {e : Nat → Int32} {n : Nat} {v : Int32} (h : ab_rv e n v) (h1 : n < 1073741824) (h2 : 16 ≤ n) : v = nI (n - 16) := by
  rw [h.1 h1, ← pk_sub h2, ab_h16]
theorem ab_ofn {e : Nat → Int32} {m : Nat} (h : m + 16 < 1073741824) : ab_rv e (m + 16) (nI m) :=
  ⟨fun _ => by rw [← nI_add, ab_h16]; grind, fun h1 _ => absurd h1 (by omega)⟩
theorem ab_kn {e : Nat → Int32} {n : Nat} {v : Int32} (h : n < 1073741824) (hv : v = nI n - 16) : ab_rv e n v := ⟨fun _ => hv, fun h1 _ => absurd h1 (by omega)⟩
noncomputable def ab_lo (n : Nat) : Nat := ab_ite (Nat.ble 1073741824 n) (ab_ite (Nat.ble 2147483648 n) 0 (ab_slo (Nat.sub n 1073741824))) (Nat.add n 2147483632)
noncomputable def ab_hi (n : Nat) : Nat := ab_ite (Nat.ble 1073741824 n) (ab_ite (Nat.ble 2147483648 n) 4294967295 (ab_shi (Nat.sub n 1073741824))) (Nat.add n 2147483632)
theorem ab_ble (a b : Nat) : Nat.ble a b = decide (a ≤ b) := by
  by_cases h : a ≤ b
  · rw [Nat.ble_eq_true_of_le h]; simp [h]
  · cases hb : Nat.ble a b
    · simp [h]
    · exact absurd (Nat.le_of_ble_eq_true hb) h
theorem ab_beq (a b : Nat) : Nat.beq a b = decide (a = b) := by
  by_cases h : a = b
  · subst h; simp [Nat.beq_refl]
  · cases hb : Nat.beq a b
    · simp [h]
    · exact absurd (Nat.eq_of_beq_eq_true hb) h
theorem ab_lohi {e : Nat → Int32} {n : Nat} {v : Int32} (h : ab_rv e n v) : (ab_lo n : Int) ≤ v.toInt + 2147483648 ∧ v.toInt + 2147483648 ≤ (ab_hi n : Int) := by
  unfold ab_lo ab_hi
  simp only [ab_ite_eq, ab_ble, decide_eq_true_eq]
  by_cases h1 : 1073741824 ≤ n
  · by_cases h2 : 2147483648 ≤ n
    · rw [if_pos h1, if_pos h1, if_pos h2, if_pos h2]
      have hl := Int32.le_toInt v
      have hh := Int32.toInt_lt v
      omega
    · rw [if_pos h1, if_pos h1, if_neg h2, if_neg h2]
      exact (h.2 h1 (by omega)).2
  · rw [if_neg h1, if_neg h1, h.1 (by omega)]
    have := pk_sub_toInt (a := n) (b := 16) (by omega) (by omega)
    rw [ab_h16] at this
    rw [this]
    show ((n + 2147483632 : Nat) : Int) ≤ _ ∧ _ ≤ ((n + 2147483632 : Nat) : Int)
    omega
noncomputable def ab_add (a b : Nat) : Nat :=
  ab_ite (Nat.ble 1073741824 a) (ab_ite (Nat.beq b 16) a (ab_ite (Nat.beq a 1073741829) (ab_ite (Nat.beq b 1073741830) 1073741831 2147483648) 2147483648))
    (ab_ite (Nat.ble 1073741824 b) (ab_ite (Nat.beq a 16) b 2147483648)
      (ab_ite (Nat.ble 16 (Nat.add a b)) (ab_ite (Nat.ble (Nat.add a b) 1073741839) (Nat.sub (Nat.add a b) 16) 2147483648) 2147483648))
noncomputable def ab_sub (a b : Nat) : Nat :=
  ab_ite (Nat.ble 1073741800 a) 2147483648 (ab_ite (Nat.ble 1073741824 b) 2147483648 (ab_ite (Nat.ble b (Nat.add a 16)) (Nat.sub (Nat.add a 16) b) 2147483648))
noncomputable def ab_mul (a b : Nat) : Nat :=
  ab_ite (Nat.ble 1073741824 a) 2147483648
    (ab_ite (Nat.ble 1073741824 b) (ab_ite (Nat.beq a 17) b (ab_ite (Nat.beq a 19) (ab_ite (Nat.beq b 1073741825) 1073741830 2147483648) 2147483648))
      (ab_ite (Nat.ble 16 a) (ab_ite (Nat.ble 16 b) (ab_ite (Nat.ble (Nat.mul (Nat.sub a 16) (Nat.sub b 16)) 1073741800) (Nat.add (Nat.mul (Nat.sub a 16) (Nat.sub b 16)) 16) 2147483648) 2147483648) 2147483648))
noncomputable def ab_div (a b : Nat) : Nat :=
  ab_ite (Nat.ble 1073741824 a) 2147483648 (ab_ite (Nat.ble 1073741824 b) 2147483648
      (ab_ite (Nat.ble 16 a) (ab_ite (Nat.ble 17 b) (Nat.add (Nat.div (Nat.sub a 16) (Nat.sub b 16)) 16) 2147483648) 2147483648))
noncomputable def ab_and (a b : Nat) : Nat :=
  ab_ite (Nat.ble 1073741824 a) 2147483648 (ab_ite (Nat.ble 1073741824 b) 2147483648
      (ab_ite (Nat.ble 16 a) (ab_ite (Nat.ble 16 b) (Nat.add (Nat.land (Nat.sub a 16) (Nat.sub b 16)) 16) 2147483648) 2147483648))
noncomputable def ab_or (a b : Nat) : Nat :=
  ab_ite (Nat.ble 1073741824 a) 2147483648 (ab_ite (Nat.ble 1073741824 b) 2147483648
      (ab_ite (Nat.ble 16 a) (ab_ite (Nat.ble 16 b) (ab_ite (Nat.ble (Nat.lor (Nat.sub a 16) (Nat.sub b 16)) 1073741800) (Nat.add (Nat.lor (Nat.sub a 16) (Nat.sub b 16)) 16) 2147483648) 2147483648) 2147483648))
noncomputable def ab_shl (a b : Nat) : Nat :=
  ab_ite (Nat.ble 1073741824 a) 2147483648 (ab_ite (Nat.ble 47 b) 2147483648
      (ab_ite (Nat.ble 16 a) (ab_ite (Nat.ble 16 b) (ab_ite (Nat.ble (Nat.mul (Nat.sub a 16) (Nat.pow 2 (Nat.sub b 16))) 1073741800) (Nat.add (Nat.mul (Nat.sub a 16) (Nat.pow 2 (Nat.sub b 16))) 16) 2147483648) 2147483648) 2147483648))
noncomputable def ab_shr (a b : Nat) : Nat :=
  ab_ite (Nat.ble 1073741824 a) 2147483648 (ab_ite (Nat.ble 47 b) 2147483648
      (ab_ite (Nat.ble 16 a) (ab_ite (Nat.ble 16 b) (Nat.add (Nat.div (Nat.sub a 16) (Nat.pow 2 (Nat.sub b 16))) 16) 2147483648) 2147483648))
theorem ab_rvT {e : Nat → Int32} {c : Bool} {n : Nat} {v : Int32} (h : c = true → ab_rv e n v) : ab_rv e (ab_ite c n 2147483648) v := by
  cases c
  · exact ab_unk
  · exact h rfl
theorem ab_rvF {e : Nat → Int32} {c : Bool} {n : Nat} {v : Int32} (h : c = false → ab_rv e n v) : ab_rv e (ab_ite c 2147483648 n) v := by
  cases c
  · exact h rfl
  · exact ab_unk
theorem ab_rvI {e : Nat → Int32} {c : Bool} {n m : Nat} {v : Int32} (h : c = true → ab_rv e n v) (g : c = false → ab_rv e m v) : ab_rv e (ab_ite c n m) v := by
  cases c
  · exact g rfl
  · exact h rfl
theorem ab_bt {a b : Nat} (h : Nat.ble a b = true) : a ≤ b := Nat.le_of_ble_eq_true h
theorem ab_bf {a b : Nat} (h : Nat.ble a b = false) : b < a := by
  rw [ab_ble] at h
  exact Nat.lt_of_not_le (of_decide_eq_false h)
theorem ab_qt {a b : Nat} (h : Nat.beq a b = true) : a = b := Nat.eq_of_beq_eq_true h
theorem ab_qf {a b : Nat} (h : Nat.beq a b = false) : a ≠ b := by
  rw [ab_beq] at h
  exact of_decide_eq_false h
theorem ab_addS {e : Nat → Int32} {a b : Nat} {x y : Int32} (ha : ab_rv e a x) (hb : ab_rv e b y) : ab_rv e (ab_add a b) (x + y) := by
  unfold ab_add
  refine ab_rvI (fun h1 => ab_rvI (fun h2 => ?_) (fun _ => ab_rvT (fun h3 => ab_rvT (fun h4 => ?_)))) (fun h1 => ab_rvI (fun h2 => ab_rvT (fun h3 => ?_)) (fun h2 => ab_rvT (fun h3 => ab_rvT (fun h4 => ?_))))
  · have h2 := ab_qt h2
    have : y = 0 := by rw [hb.1 (by omega), h2]; rfl
    rw [this]
    have : x + 0 = x := by grind
    rw [this]; exact ha
  · have h3 := ab_qt h3
    have h4 := ab_qt h4
    subst h3
    subst h4
    refine ⟨fun h => absurd h (by omega), fun _ _ => ⟨?_, ?_⟩⟩
    · rw [(ha.2 (by omega) (by omega)).1, (hb.2 (by omega) (by omega)).1]
      rfl
    · show (0 : Int) ≤ (x + y).toInt + 2147483648 ∧ (x + y).toInt + 2147483648 ≤ (4294967295 : Int)
      have hl := Int32.le_toInt (x + y)
      have hh := Int32.toInt_lt (x + y)
      omega
  · have h3 := ab_qt h3
    have : x = 0 := by rw [ha.1 (by omega), h3]; rfl
    rw [this]
    have : 0 + y = y := by grind
    rw [this]; exact hb
  · have h1 := ab_bf h1
    have h2 := ab_bf h2
    have h3 := ab_bt h3
    have h4 := ab_bt h4
    have h3 : 16 ≤ a + b := h3
    have h4 : a + b ≤ 1073741839 := h4
    show ab_rv e (a + b - 16) _
    refine ab_kn (by omega) ?_
    rw [ha.1 h1, hb.1 h2, ← pk_sub h3, ← nI_add, ab_h16]
    grind
theorem ab_subS {e : Nat → Int32} {a b : Nat} {x y : Int32} (ha : ab_rv e a x) (hb : ab_rv e b y) : ab_rv e (ab_sub a b) (x - y) := by
  unfold ab_sub
  refine ab_rvF (fun h1 => ab_rvF (fun h2 => ab_rvT (fun h3 => ?_)))
  have h1 := ab_bf h1
  have h2 := ab_bf h2
  have h3 : b ≤ a + 16 := ab_bt h3
  show ab_rv e (a + 16 - b) _
  refine ab_kn (by omega) ?_
  rw [ha.1 (by omega), hb.1 h2, ← pk_sub h3, ← nI_add, ab_h16]
  grind
theorem ab_mulS {e : Nat → Int32} {a b : Nat} {x y : Int32} (ha : ab_rv e a x) (hb : ab_rv e b y) : ab_rv e (ab_mul a b) (x * y) := by
  unfold ab_mul
  refine ab_rvF (fun h1 => ab_rvI (fun h2 => ab_rvI (fun h3 => ?_) (fun _ => ab_rvT (fun h3 => ab_rvT (fun h4 => ?_)))) (fun h2 => ab_rvT (fun h3 => ab_rvT (fun h4 => ab_rvT (fun h5 => ?_)))))
  · have h3 := ab_qt h3
    have : x = 1 := by rw [ha.1 (by omega), h3]; rfl
    rw [this]
    have : 1 * y = y := by grind
    rw [this]; exact hb
  · have h3 := ab_qt h3
    have h4 := ab_qt h4
    subst h3
    subst h4
    refine ⟨fun h => absurd h (by omega), fun _ _ => ⟨?_, ?_⟩⟩
    · rw [ha.1 (by omega), (hb.2 (by omega) (by omega)).1]
      rfl
    · show (0 : Int) ≤ (x * y).toInt + 2147483648 ∧ (x * y).toInt + 2147483648 ≤ (4294967295 : Int)
      have hl := Int32.le_toInt (x * y)
      have hh := Int32.toInt_lt (x * y)
      omega
  · have h1 := ab_bf h1
    have h2 := ab_bf h2
    have h3 := ab_bt h3
    have h4 := ab_bt h4
    have h5 : (a - 16) * (b - 16) ≤ 1073741800 := ab_bt h5
    show ab_rv e ((a - 16) * (b - 16) + 16) _
    rw [ab_nn ha h1 h3, ab_nn hb h2 h4, pk_mul]
    exact ab_ofn (by omega)
theorem ab_divS {e : Nat → Int32} {a b : Nat} {x y : Int32} (ha : ab_rv e a x) (hb : ab_rv e b y) : ab_rv e (ab_div a b) (x / y) := by
  unfold ab_div
  refine ab_rvF (fun h1 => ab_rvF (fun h2 => ab_rvT (fun h3 => ab_rvT (fun h4 => ?_))))
  have h1 := ab_bf h1
  have h2 := ab_bf h2
  have h3 := ab_bt h3
  have h4 := ab_bt h4
  show ab_rv e ((a - 16) / (b - 16) + 16) _
  rw [ab_nn ha h1 h3, ab_nn hb h2 (by omega), pk_div (by omega) (by omega) (by omega)]
  exact ab_ofn (by have := Nat.div_le_self (a - 16) (b - 16); omega)
theorem ab_nand (a b : Nat) : nI a &&& nI b = nI (a &&& b) := by
  apply Int32.toBitVec_inj.1
  show BitVec.ofNat 32 a &&& BitVec.ofNat 32 b = BitVec.ofNat 32 (a &&& b)
  apply BitVec.eq_of_getLsbD_eq
  intro i hi
  simp [hi]
theorem ab_nor (a b : Nat) : nI a ||| nI b = nI (a ||| b) := by
  apply Int32.toBitVec_inj.1
  show BitVec.ofNat 32 a ||| BitVec.ofNat 32 b = BitVec.ofNat 32 (a ||| b)
  apply BitVec.eq_of_getLsbD_eq
  intro i hi
  simp [hi]
theorem ab_andS {e : Nat → Int32} {a b : Nat} {x y : Int32} (ha : ab_rv e a x) (hb : ab_rv e b y) : ab_rv e (ab_and a b) (x &&& y) := by
  unfold ab_and
  refine ab_rvF (fun h1 => ab_rvF (fun h2 => ab_rvT (fun h3 => ab_rvT (fun h4 => ?_))))
  have h1 := ab_bf h1
  have h2 := ab_bf h2
  have h3 := ab_bt h3
  have h4 := ab_bt h4
  show ab_rv e (((a - 16) &&& (b - 16)) + 16) _
  rw [ab_nn ha h1 h3, ab_nn hb h2 h4, ab_nand]
  exact ab_ofn (by have : (a - 16) &&& (b - 16) ≤ a - 16 := Nat.and_le_left; omega)
theorem ab_orS {e : Nat → Int32} {a b : Nat} {x y : Int32} (ha : ab_rv e a x) (hb : ab_rv e b y) : ab_rv e (ab_or a b) (x ||| y) := by
  unfold ab_or
  refine ab_rvF (fun h1 => ab_rvF (fun h2 => ab_rvT (fun h3 => ab_rvT (fun h4 => ab_rvT (fun h5 => ?_)))))
  have h1 := ab_bf h1
  have h2 := ab_bf h2
  have h3 := ab_bt h3
  have h4 := ab_bt h4
  have h5 : ((a - 16) ||| (b - 16)) ≤ 1073741800 := ab_bt h5
  show ab_rv e (((a - 16) ||| (b - 16)) + 16) _
  rw [ab_nn ha h1 h3, ab_nn hb h2 h4, ab_nor]
  exact ab_ofn (by omega)
theorem ab_cnt : ∀ n, n < 32 → ((nI n).toBitVec.smod 32).toNat = n := by decide +kernel
theorem ab_shlS {e : Nat → Int32} {a b : Nat} {x y : Int32} (ha : ab_rv e a x) (hb : ab_rv e b y) : ab_rv e (ab_shl a b) (x <<< y) := by
  unfold ab_shl
  refine ab_rvF (fun h1 => ab_rvF (fun h2 => ab_rvT (fun h3 => ab_rvT (fun h4 => ab_rvT (fun h5 => ?_)))))
  have h1 := ab_bf h1
  have h2 := ab_bf h2
  have h3 := ab_bt h3
  have h4 := ab_bt h4
  have h5 : (a - 16) * 2 ^ (b - 16) ≤ 1073741800 := ab_bt h5
  show ab_rv e ((a - 16) * 2 ^ (b - 16) + 16) _
  rw [ab_nn ha h1 h3, ab_nn hb (by omega) h4, pk_shlN _ (b - 16) (ab_cnt _ (by omega)) (by omega)]
  exact ab_ofn (by omega)
theorem ab_shrS {e : Nat → Int32} {a b : Nat} {x y : Int32} (ha : ab_rv e a x) (hb : ab_rv e b y) : ab_rv e (ab_shr a b) (x >>> y) := by
  unfold ab_shr
  refine ab_rvF (fun h1 => ab_rvF (fun h2 => ab_rvT (fun h3 => ab_rvT (fun h4 => ?_))))
  have h1 := ab_bf h1
  have h2 := ab_bf h2
  have h3 := ab_bt h3
  have h4 := ab_bt h4
  show ab_rv e ((a - 16) / 2 ^ (b - 16) + 16) _
  rw [ab_nn ha h1 h3, ab_nn hb (by omega) h4, pk_shrN (by omega) _ (b - 16) (ab_cnt _ (by omega))]
  exact ab_ofn (by have := Nat.div_le_self (a - 16) (2 ^ (b - 16)); omega)
/-! roads -/
noncomputable def ab_lt (a b : Nat) (t f : Bool) : Bool := ab_ite (Nat.ble (ab_lo b) (ab_hi a)) (ab_ite (Nat.ble (ab_hi b) (ab_lo a)) f (ab_ite t f false)) t
noncomputable def ab_le (a b : Nat) (t f : Bool) : Bool := ab_ite (Nat.ble (ab_hi a) (ab_lo b)) t (ab_ite (Nat.ble (ab_lo a) (ab_hi b)) (ab_ite t f false) f)
noncomputable def ab_eq (a b : Nat) (t f : Bool) : Bool :=
  ab_ite (Nat.beq a b) (ab_ite (Nat.ble 2147483648 a) (ab_ite t f false) t) (ab_ite (Nat.ble (ab_lo b) (ab_hi a)) (ab_ite (Nat.ble (ab_lo a) (ab_hi b)) (ab_ite t f false) f) f)
theorem ab_fork {t f : Bool} {c A B : Prop} (h : ab_ite t f false = true) (ht : t = true → A) (hf : f = true → B) : (c → A) ∧ (¬ c → B) := by
  cases t
  · exact absurd (show false = true from h) (by decide)
  · exact ⟨fun _ => ht rfl, fun _ => hf h⟩
theorem ab_ltS {e : Nat → Int32} {a b : Nat} {x y : Int32} {t f : Bool} {A B : Prop} (h : ab_lt a b t f = true) (ha : ab_rv e a x) (hb : ab_rv e b y) (ht : t = true → A) (hf : f = true → B) : (x < y → A) ∧ (¬ x < y → B) := by
  have la := ab_lohi ha
  have lb := ab_lohi hb
  unfold ab_lt at h
  cases h1 : Nat.ble (ab_lo b) (ab_hi a)
  · rw [h1] at h
    have h1 := ab_bf h1
    exact ⟨fun _ => ht h, fun z => absurd (Int32.lt_iff_toInt_lt.mpr (by omega)) z⟩
  · rw [h1] at h
    cases h2 : Nat.ble (ab_hi b) (ab_lo a)
    · rw [h2] at h
      exact ab_fork h ht hf
    · rw [h2] at h
      have h2 := ab_bt h2
      exact ⟨fun z => absurd (Int32.lt_iff_toInt_lt.mp z) (by omega), fun _ => hf h⟩
theorem ab_leS {e : Nat → Int32} {a b : Nat} {x y : Int32} {t f : Bool} {A B : Prop} (h : ab_le a b t f = true) (ha : ab_rv e a x) (hb : ab_rv e b y) (ht : t = true → A) (hf : f = true → B) : (x ≤ y → A) ∧ (¬ x ≤ y → B) := by
  have la := ab_lohi ha
  have lb := ab_lohi hb
  unfold ab_le at h
  cases h1 : Nat.ble (ab_hi a) (ab_lo b)
  · rw [h1] at h
    cases h2 : Nat.ble (ab_lo a) (ab_hi b)
    · rw [h2] at h
      have h2 := ab_bf h2
      exact ⟨fun z => absurd (Int32.le_iff_toInt_le.mp z) (by omega), fun _ => hf h⟩
    · rw [h2] at h
      exact ab_fork h ht hf
  · rw [h1] at h
    have h1 := ab_bt h1
    exact ⟨fun _ => ht h, fun z => absurd (Int32.le_iff_toInt_le.mpr (by omega)) z⟩
theorem ab_rvU {e : Nat → Int32} {a : Nat} {x y : Int32} (ha : ab_rv e a x) (hb : ab_rv e a y) (h : a < 2147483648) : x = y := by
  by_cases h1 : a < 1073741824
  · rw [ha.1 h1, hb.1 h1]
  · rw [(ha.2 (by omega) h).1, (hb.2 (by omega) h).1]
theorem ab_eqS {e : Nat → Int32} {a b : Nat} {x y : Int32} {t f : Bool} {A B : Prop} (h : ab_eq a b t f = true) (ha : ab_rv e a x) (hb : ab_rv e b y) (ht : t = true → A) (hf : f = true → B) : (x = y → A) ∧ (¬ x = y → B) := by
  have la := ab_lohi ha
  have lb := ab_lohi hb
  unfold ab_eq at h
  cases h0 : Nat.beq a b
  · rw [h0] at h
    cases h1 : Nat.ble (ab_lo b) (ab_hi a)
    · rw [h1] at h
      have h1 := ab_bf h1
      exact ⟨fun z => absurd (congrArg Int32.toInt z) (by omega), fun _ => hf h⟩
    · rw [h1] at h
      cases h2 : Nat.ble (ab_lo a) (ab_hi b)
      · rw [h2] at h
        have h2 := ab_bf h2
        exact ⟨fun z => absurd (congrArg Int32.toInt z) (by omega), fun _ => hf h⟩
      · rw [h2] at h
        exact ab_fork h ht hf
  · rw [h0] at h
    have h0 := ab_qt h0
    subst h0
    cases h1 : Nat.ble 2147483648 a
    · rw [h1] at h
      have h1 := ab_bf h1
      exact ⟨fun _ => ht h, fun z => absurd (ab_rvU ha hb h1) z⟩
    · rw [h1] at h
      exact ab_fork h ht hf
end
section
/-! arrays: 32 bits a cell in one number -/
noncomputable def ab_get (A i : Nat) : Nat := Nat.mod (Nat.shiftRight A (Nat.mul 32 i)) 4294967296
noncomputable def ab_set (A i v : Nat) : Nat := Nat.xor A (Nat.shiftLeft (Nat.xor (ab_get A i) v) (Nat.mul 32 i))
theorem ab_getB (A i b : Nat) : (ab_get A i).testBit b = (decide (b < 32) && A.testBit (32 * i + b)) := by
  show ((A >>> (32 * i)) % 2 ^ 32).testBit b = _
  rw [Nat.testBit_mod_two_pow, Nat.testBit_shiftRight]
theorem ab_getset {A i v j : Nat} (hv : v < 4294967296) : ab_get (ab_set A i v) j = if j = i then v else ab_get A j := by
  have hvb : ∀ b, 32 ≤ b → v.testBit b = false := fun b hb => Nat.testBit_lt_two_pow (Nat.lt_of_lt_of_le hv (Nat.pow_le_pow_right (by decide) hb : 2 ^ 32 ≤ 2 ^ b))
  apply Nat.eq_of_testBit_eq
  intro b
  rw [ab_getB]
  show (decide (b < 32) && (A ^^^ ((ab_get A i ^^^ v) <<< (32 * i))).testBit (32 * j + b)) = _
  rw [Nat.testBit_xor, Nat.testBit_shiftLeft, Nat.testBit_xor, ab_getB]
  by_cases hb : b < 32
  · by_cases hj : j = i
    · subst hj
      rw [if_pos rfl, show 32 * j + b - 32 * j = b by omega]
      simp [hb]
    · rw [if_neg hj, ab_getB]
      by_cases h2 : 32 * i ≤ 32 * j + b
      · have h3 : 32 ≤ 32 * j + b - 32 * i := by omega
        rw [hvb _ h3]
        have h4 : ¬ 32 * j + b - 32 * i < 32 := by omega
        simp [hb, h4]
      · simp [hb, h2]
  · by_cases hj : j = i
    · rw [if_pos hj, hvb b (by omega)]
      simp [hb]
    · rw [if_neg hj, ab_getB]
      simp [hb]
noncomputable def ab_cut (v : Nat) : Nat := ab_ite (Nat.ble 2147483648 v) 2147483648 v
theorem ab_cutL (v : Nat) : ab_cut v < 4294967296 := by
  unfold ab_cut
  cases h : Nat.ble 2147483648 v
  · have := ab_bf h
    show v < _
    omega
  · show 2147483648 < 4294967296
    omega
theorem ab_cutS {e : Nat → Int32} {v : Nat} {x : Int32} (h : ab_rv e v x) : ab_rv e (ab_cut v) x := ab_rvF (fun _ => h)
/-- an array and its code, n places -/
def ab_ra (e : Nat → Int32) (n A : Nat) (a : Nat → Int32) : Prop := ∀ j, j < n → ab_rv e (ab_get A j) (a j)
/-- the cells and their code: the row (4 to 15) isn't in it -/
def ab_rc (e : Nat → Int32) (A : Nat) (a : Nat → Int32) : Prop := ∀ j, j < 340 → (j < 4 ∨ 16 ≤ j) → ab_rv e (ab_get A j) (a j)
noncomputable def ab_rd (n A i : Nat) : Nat := ab_ite (Nat.ble 16 i) (ab_ite (Nat.ble (Nat.add 16 n) i) 2147483648 (ab_get A (Nat.sub i 16))) 2147483648
theorem ab_rdS {e : Nat → Int32} {n A i : Nat} {a : Nat → Int32} {x : Int32} (hn : n ≤ 1000) (hA : ab_ra e n A a) (hi : ab_rv e i x) : ab_rv e (ab_rd n A i) (a x.toNatClampNeg) := by
  unfold ab_rd
  refine ab_rvT (fun h1 => ab_rvF (fun h2 => ?_))
  have h1 := ab_bt h1
  have h2 : i < 16 + n := ab_bf h2
  rw [ab_nn hi (by omega) h1, nI_clamp (by omega)]
  exact hA (i - 16) (by omega)
noncomputable def ab_rdc (A i : Nat) : Nat := ab_ite (Nat.ble 16 i) (ab_ite (Nat.ble 356 i) 2147483648 (ab_ite (Nat.ble 32 i) (ab_get A (Nat.sub i 16)) (ab_ite (Nat.ble 20 i) 2147483648 (ab_get A (Nat.sub i 16))))) 2147483648
theorem ab_rdcS {e : Nat → Int32} {A i : Nat} {a : Nat → Int32} {x : Int32} (hA : ab_rc e A a) (hi : ab_rv e i x) : ab_rv e (ab_rdc A i) (a x.toNatClampNeg) := by
  unfold ab_rdc
  refine ab_rvT (fun h1 => ab_rvF (fun h2 => ab_rvI (fun h3 => ?_) (fun h3 => ab_rvF (fun h4 => ?_))))
  · have h1 := ab_bt h1
    have h2 := ab_bf h2
    have h3 := ab_bt h3
    rw [ab_nn hi (by omega) h1, nI_clamp (by omega)]
    exact hA (i - 16) (by omega) (by omega)
  · have h1 := ab_bt h1
    have h2 := ab_bf h2
    have h4 := ab_bf h4
    rw [ab_nn hi (by omega) h1, nI_clamp (by omega)]
    exact hA (i - 16) (by omega) (by omega)
theorem ab_rdk {e : Nat → Int32} {A : Nat} {a : Nat → Int32} (j : Nat) (hA : ab_rc e A a) (h : j < 4) : ab_rv e (ab_get A j) (a j) := hA j (by omega) (by omega)
/-- strict passing on: the kernel computes n before it goes on -/
noncomputable def ab_str (n : Nat) (k : Nat → Bool) : Bool := Nat.rec (k 0) (fun m _ => k (Nat.succ m)) n
theorem ab_strE (n : Nat) (k : Nat → Bool) : ab_str n k = k n := by cases n <;> rfl
theorem ab_strS {n : Nat} {k : Nat → Bool} (h : ab_str n k = true) : k n = true := by rw [ab_strE] at h; exact h
theorem ab_letS {e : Nat → Int32} {n : Nat} {k : Nat → Bool} {x : Int32} {P : Int32 → Prop} (h : ab_str n k = true) (hx : ab_rv e n x) (H : ∀ (N : Nat) (y : Int32), k N = true → ab_rv e N y → P y) : ∀ y, y = x → P y := by
  intro y hy
  subst hy
  exact H n y (ab_strS h) hx
noncomputable def ab_up (n A i v : Nat) (k : Nat → Bool) : Bool := ab_ite (Nat.ble 16 i) (ab_ite (Nat.ble (Nat.add 16 n) i) false (ab_str (ab_set A (Nat.sub i 16) (ab_cut v)) k)) false
theorem ab_itT {c t : Bool} (h : ab_ite c t false = true) : c = true ∧ t = true := by
  cases c
  · exact absurd (show false = true from h) (by decide)
  · exact ⟨rfl, h⟩
theorem ab_itF {c t : Bool} (h : ab_ite c false t = true) : c = false ∧ t = true := by
  cases c
  · exact ⟨rfl, h⟩
  · exact absurd (show false = true from h) (by decide)
theorem ab_setS {e : Nat → Int32} {n A i v : Nat} {a : Nat → Int32} {y : Int32} (hA : ab_ra e n A a) (hv : ab_rv e v y) : ab_ra e n (ab_set A i (ab_cut v)) (upd a i y) := by
  intro j hj
  rw [ab_getset (ab_cutL v)]
  by_cases h : j = i
  · rw [if_pos h, h, pk_us]
    exact ab_cutS hv
  · rw [if_neg h, pk_un h]
    exact hA j hj
theorem ab_setC {e : Nat → Int32} {A i v : Nat} {a : Nat → Int32} {y : Int32} (hA : ab_rc e A a) (hv : ab_rv e v y) : ab_rc e (ab_set A i (ab_cut v)) (upd a i y) := by
  intro j hj hj2
  rw [ab_getset (ab_cutL v)]
  by_cases h : j = i
  · rw [if_pos h, h, pk_us]
    exact ab_cutS hv
  · rw [if_neg h, pk_un h]
    exact hA j hj hj2
theorem ab_upS {e : Nat → Int32} {n A i v : Nat} {a : Nat → Int32} {x y : Int32} {k : Nat → Bool} {P : (Nat → Int32) → Prop} (h : ab_up n A i v k = true) (hn : n ≤ 1000) (hA : ab_ra e n A a) (hi : ab_rv e i x) (hv : ab_rv e v y)
    (H : ∀ (A' : Nat) (a' : Nat → Int32), k A' = true → ab_ra e n A' a' → P a') : vp_in x n ∧ ∀ a', a' = upd a x.toNatClampNeg y → P a' := by
  obtain ⟨h1, h⟩ := ab_itT h
  obtain ⟨h2, h⟩ := ab_itF h
  have h1 := ab_bt h1
  have h2 : i < 16 + n := ab_bf h2
  have hx := ab_nn hi (by omega) h1
  refine ⟨?_, fun a' ha => ?_⟩
  · rw [hx]
    exact vp_in_nI (by omega) (by omega)
  · rw [hx, nI_clamp (by omega)] at ha
    rw [ha]
    exact H _ _ (ab_strS h) (ab_setS hA hv)
/-- a store at a place that is a number -/
theorem ab_upK {e : Nat → Int32} {n A v : Nat} {a : Nat → Int32} {y : Int32} {k : Nat → Bool} {P : (Nat → Int32) → Prop} (i : Nat) (h : ab_str (ab_set A i (ab_cut v)) k = true) (hA : ab_ra e n A a) (hv : ab_rv e v y)
    (H : ∀ (A' : Nat) (a' : Nat → Int32), k A' = true → ab_ra e n A' a' → P a') : ∀ a', a' = upd a i y → P a' := by
  intro a' ha
  rw [ha]
  exact H _ _ (ab_strS h) (ab_setS hA hv)
noncomputable def ab_vin (n i : Nat) (t : Bool) : Bool := ab_ite (Nat.ble 16 i) (ab_ite (Nat.ble (Nat.add 16 n) i) false t) false
theorem ab_vinS {e : Nat → Int32} {n i : Nat} {x : Int32} {t : Bool} {P : Prop} (h : ab_vin n i t = true) (hn : n ≤ 2000) (hi : ab_rv e i x) (H : t = true → P) : vp_in x n ∧ P := by
  obtain ⟨h1, h⟩ := ab_itT h
  obtain ⟨h2, h⟩ := ab_itF h
  have h1 := ab_bt h1
  have h2 : i < 16 + n := ab_bf h2
  rw [ab_nn hi (by omega) h1]
  exact ⟨vp_in_nI (by omega) (by omega), H h⟩
theorem ab_d12 {P : Prop} (h : P) : ¬ (12 : Int32) = 0 ∧ P := ⟨by decide, h⟩
theorem ab_d16 {P : Prop} (h : P) : ¬ (16 : Int32) = 0 ∧ P := ⟨by decide, h⟩
end
section
/-! the log of the one transaction, put, undo -/
def hq_cnt (a : Nat → Int32) : Nat → Nat
  | 0 => 0
  | n + 1 => hq_cnt a n + (if a n = 0 then 0 else 1)
theorem hq_cntL (a : Nat → Int32) (n : Nat) : hq_cnt a n ≤ n := by
  induction n with
  | zero => exact Nat.le_refl 0
  | succ n ih =>
    show hq_cnt a n + (if a n = 0 then 0 else 1) ≤ n + 1
    split <;> omega
theorem hq_cntU {a : Nat → Int32} {i : Nat} (h : a i = 0) (n : Nat) : hq_cnt (upd a i 1) n = hq_cnt a n + (if i < n then 1 else 0) := by
  induction n with
  | zero => rfl
  | succ n ih =>
    show hq_cnt (upd a i 1) n + (if upd a i 1 n = 0 then 0 else 1) = hq_cnt a n + (if a n = 0 then 0 else 1) + _
    rw [ih]
    by_cases hn : n = i
    · subst hn
      rw [pk_us, h, if_neg (show ¬ n < n by omega), if_neg (show ¬ (1 : Int32) = 0 by decide), if_pos rfl, if_pos (show n < n + 1 by omega)]
    · rw [pk_un hn]
      by_cases h2 : i < n
      · rw [if_pos h2, if_pos (show i < n + 1 by omega)]
        omega
      · rw [if_neg h2, if_neg (show ¬ i < n + 1 by omega)]
        omega
def hq_lg (q : Nat) (κ : Nat → Nat) (og a1 a2 a3 a4 a5 : Nat → Int32) : Prop :=
  a5 0 = nI q ∧ (∀ k, k < q → κ k < 340 ∧ a2 k = nI (κ k) ∧ a3 k = og (κ k) ∧ a4 (κ k) ≠ 0) ∧ (∀ i, i < 340 → a4 i ≠ 0 → ∃ k, k < q ∧ κ k = i) ∧
  (∀ i, i < 340 → a4 i = 0 → a1 i = og i) ∧ (∀ i, 340 ≤ i → i < 1360 → a4 i = 0) ∧ (∀ l, 0 < l → l < 4 → a5 l = 0) ∧ q = hq_cnt a4 340
def hq_tx (F : Nat) (og : Nat → Int32) (op : Int32) (a1 a2 a3 a4 a5 : Nat → Int32) : Prop :=
  (F = 0 → op = 0 ∧ (∀ i, i < 1360 → a4 i = 0) ∧ ∀ l, l < 4 → a5 l = 0) ∧ (F ≠ 0 → op = 1 ∧ ∃ q κ, hq_lg q κ og a1 a2 a3 a4 a5)
theorem hq_lgq {q : Nat} {κ : Nat → Nat} {og a1 a2 a3 a4 a5 : Nat → Int32} (h : hq_lg q κ og a1 a2 a3 a4 a5) : q ≤ 340 := by
  rw [h.2.2.2.2.2.2]
  exact hq_cntL _ _
theorem hq_lga {q : Nat} {κ : Nat → Nat} {og a1 a2 a3 a4 a5 : Nat → Int32} {i : Nat} (h : hq_lg q κ og a1 a2 a3 a4 a5) (hi : i < 340) (h4 : a4 i = 0) :
    q < 340 ∧ hq_lg (q + 1) (fun k => if k = q then i else κ k) og a1 (upd a2 q (nI i)) (upd a3 q (a1 i)) (upd a4 i 1) (upd a5 0 (nI q + 1)) := by
  obtain ⟨e1, e2, e3, e4, e5, e6, e7⟩ := h
  have hc := hq_cntU h4 340
  rw [if_pos hi] at hc
  have hl := hq_cntL (upd a4 i 1) 340
  refine ⟨by omega, by rw [pk_us, nI_1], ?_, ?_, ?_, ?_, ?_, by omega⟩
  · intro k hk
    dsimp only
    by_cases hkq : k = q
    · rw [if_pos hkq, hkq, pk_us, pk_us, pk_us]
      exact ⟨hi, rfl, e4 i hi h4, by decide⟩
    · rw [if_neg hkq, pk_un hkq, pk_un hkq]
      obtain ⟨f1, f2, f3, f4⟩ := e2 k (by omega)
      have : κ k ≠ i := fun z => f4 (z ▸ h4)
      rw [pk_un this]
      exact ⟨f1, f2, f3, f4⟩
  · intro j hj hn
    by_cases hji : j = i
    · exact ⟨q, by omega, by dsimp only; rw [if_pos rfl, hji]⟩
    · rw [pk_un hji] at hn
      obtain ⟨k, hk, hk2⟩ := e3 j hj hn
      exact ⟨k, by omega, by dsimp only; rw [if_neg (by omega), hk2]⟩
  · intro j hj hn
    by_cases hji : j = i
    · rw [hji, pk_us] at hn
      exact absurd hn (by decide)
    · rw [pk_un hji] at hn
      exact e4 j hj hn
  · intro j hj hj2
    rw [pk_un (by omega)]
    exact e5 j hj hj2
  · intro l hl hl2
    rw [pk_un (by omega)]
    exact e6 l hl hl2
theorem hq_lgp {q : Nat} {κ : Nat → Nat} {og a1 a2 a3 a4 a5 : Nat → Int32} {i : Nat} {v : Int32} (h : hq_lg q κ og a1 a2 a3 a4 a5) (h4 : a4 i ≠ 0) : hq_lg q κ og (upd a1 i v) a2 a3 a4 a5 := by
  obtain ⟨e1, e2, e3, e4, e5, e6, e7⟩ := h
  refine ⟨e1, e2, e3, ?_, e5, e6, e7⟩
  intro j hj hn
  rw [pk_un (show j ≠ i from fun z => h4 (by rw [← z]; exact hn))]
  exact e4 j hj hn
theorem hq_z0 (i : Nat) : (340 * (0 : Int32)) + nI i = nI i := by grind
theorem hq_keep {post : St2 → Prop} {q : Nat} {κ : Nat → Nat} {og : Nat → Int32} {op pi cl gr wr p0 : Int32} {a1 a2 a3 a4 a5 a6 a7 a8 a9 a10 a11 a12 a13 : Nat → Int32} {i : Nat}
    (hp : p0 = 0) (hi : i < 340) (h : hq_lg q κ og a1 a2 a3 a4 a5)
    (H : ∀ q' κ' b2 b3 b4 b5, hq_lg q' κ' og a1 b2 b3 b4 b5 → b4 i ≠ 0 → post (op, pi, cl, gr, wr, a1, b2, b3, b4, b5, a6, a7, a8, a9, a10, a11, a12, a13)) :
    wpX_keepOld post (op, pi, cl, gr, wr, a1, a2, a3, a4, a5, a6, a7, a8, a9, a10, a11, a12, a13) p0 (nI i) (a1 i) := by
  subst hp
  refine nm_r (hq_z0 i) ⟨vp_in_nI (by omega) (by omega), ?_⟩
  rw [nI_clamp (show i < 2 ^ 31 by omega), sb_cl0]
  refine br_c (fun h0 => ?_) (fun h0 => H q κ a2 a3 a4 a5 h h0)
  obtain ⟨hq, hn⟩ := hq_lga h hi h0
  have hv : vp_in (0 : Int32) 4 := vp_in_iff.mpr (by decide)
  refine ⟨vp_in_nI (by omega) (by omega), nm_e ⟨hv, ?_⟩⟩
  rw [h.1]
  refine nm_r (hq_z0 q) ⟨vp_in_nI (by omega) (by omega), ?_⟩
  rw [nI_clamp (show q < 2 ^ 31 by omega)]
  exact nm_e ⟨vp_in_nI (by omega) (by omega), nm_e ⟨hv, hv, nm_e (H _ _ _ _ _ _ hn (by rw [pk_us]; decide))⟩⟩
theorem hq_put {post : St2 → Prop} {F : Nat} {og : Nat → Int32} {op pi cl gr wr p0 v : Int32} {a1 a2 a3 a4 a5 a6 a7 a8 a9 a10 a11 a12 a13 : Nat → Int32} (i : Nat)
    (hp : p0 = nI i) (hi : i < 340) (h : hq_tx F og op a1 a2 a3 a4 a5)
    (H : ∀ b2 b3 b4 b5, hq_tx F og op (upd a1 i v) b2 b3 b4 b5 → post (op, pi, cl, gr, wr, upd a1 i v, b2, b3, b4, b5, a6, a7, a8, a9, a10, a11, a12, a13)) :
    wpX_put post (op, pi, cl, gr, wr, a1, a2, a3, a4, a5, a6, a7, a8, a9, a10, a11, a12, a13) p0 v := by
  subst hp
  by_cases hF : F = 0
  · obtain ⟨ho, h4, h5⟩ := h.1 hF
    refine br_t (by rw [ho]; decide) ⟨vp_in_nI hi (by omega), ?_⟩
    rw [nI_clamp (show i < 2 ^ 31 by omega)]
    exact nm_e (H a2 a3 a4 a5 ⟨fun _ => ⟨ho, h4, h5⟩, fun z => absurd hF z⟩)
  · obtain ⟨ho, q, κ, hl⟩ := h.2 hF
    refine br_f (by rw [ho]; decide) ⟨vp_in_nI hi (by omega), ?_⟩
    rw [nI_clamp (show i < 2 ^ 31 by omega)]
    refine hq_keep (by rw [ho]; rfl) hi hl (fun q' κ' b2 b3 b4 b5 hl' hb => ?_)
    exact ⟨vp_in_nI hi (by omega), nm_e (H b2 b3 b4 b5 ⟨fun z => absurd z hF, fun _ => ⟨ho, q', κ', hq_lgp hl' hb⟩⟩)⟩
theorem hq_forget {post : St2 → Prop} {q : Nat} {κ : Nat → Nat} {og : Nat → Int32} {op pi cl gr wr p0 : Int32} {a1 b1 a2 a3 a4 a5 a6 a7 a8 a9 a10 a11 a12 a13 : Nat → Int32}
    (hp : p0 = 0) (h : hq_lg q κ og b1 a2 a3 a4 a5)
    (H : ∀ b4 b5, (∀ i, i < 1360 → b4 i = 0) → (∀ l, l < 4 → b5 l = 0) → post (op, pi, cl, gr, wr, a1, a2, a3, b4, b5, a6, a7, a8, a9, a10, a11, a12, a13)) :
    wpX_forget post (op, pi, cl, gr, wr, a1, a2, a3, a4, a5, a6, a7, a8, a9, a10, a11, a12, a13) p0 := by
  subst hp
  have hq := hq_lgq h
  obtain ⟨e1, e2, e3, e4, e5, e6, e7⟩ := h
  have hv : vp_in (0 : Int32) 4 := vp_in_iff.mpr (by decide)
  refine pk_loop (fun n k s => wX_forget_2 post 0 op pi cl gr wr n (nI k) a1 a2 a3 s a5 a6 a7 a8 a9 a10 a11 a12 a13) (fun k s => ∀ i, i < 1360 → s i ≠ 0 → a4 i ≠ 0 ∧ ∀ k', k' < k → κ k' ≠ i) q 0 a4 (by omega) (fun i hi hn => ⟨hn, fun k' hk' => absurd hk' (by omega)⟩) ?_ ?_
  · intro n s hs
    refine ⟨hv, ?_⟩
    rw [sb_cl0, e1]
    refine pk_le q q (fun _ => ⟨hv, nm_e (H s _ ?_ ?_)⟩) (fun z => absurd z (by omega))
    · intro i hi
      by_cases hz : s i = 0
      · exact hz
      · obtain ⟨f1, f2⟩ := hs i hi hz
        by_cases h3 : i < 340
        · obtain ⟨k, hk, hk2⟩ := e3 i h3 f1
          exact absurd hk2 (f2 k hk)
        · exact absurd (e5 i (by omega) hi) f1
    · intro l hl
      by_cases hz : l = 0
      · rw [hz, pk_us]
      · rw [pk_un hz]
        exact e6 l (by omega) hl
  · intro n k s hk hs hw
    refine ⟨hv, ?_⟩
    rw [sb_cl0, e1]
    refine pk_le q k (fun z => absurd z (by omega)) (fun _ => ?_)
    obtain ⟨f1, f2, f3, f4⟩ := e2 k hk
    rw [hq_z0, nI_clamp (show k < 2 ^ 31 by omega), f2, hq_z0, nI_clamp (show κ k < 2 ^ 31 by omega)]
    refine ⟨vp_in_nI (by omega) (by omega), vp_in_nI (by omega) (by omega), nm_e (nm_r (nI_1 k) (hw _ ?_))⟩
    intro i hi hn
    by_cases hz : i = κ k
    · rw [hz, pk_us] at hn
      exact absurd rfl hn
    · rw [pk_un hz] at hn
      refine ⟨(hs i hi hn).1, fun k' hk' => ?_⟩
      by_cases hkk : k' = k
      · rw [hkk]
        exact fun z => hz z.symm
      · exact (hs i hi hn).2 k' (by omega)
theorem hq_undo {post : Int32 → St2 → Prop} {og : Nat → Int32} {op pi cl gr wr : Int32} {a1 a2 a3 a4 a5 a6 a7 a8 a9 a10 a11 a12 a13 : Nat → Int32} {F : Nat} (hF : F ≠ 0)
    (h : hq_tx F og op a1 a2 a3 a4 a5)
    (H : ∀ b1 b2 b3 b4 b5, (∀ i, i < 340 → b1 i = og i) → hq_tx 0 b1 0 b1 b2 b3 b4 b5 → post 0 (0, pi, cl, gr, wr, b1, b2, b3, b4, b5, a6, a7, a8, a9, a10, a11, a12, a13)) :
    wpX_undo post (op, pi, cl, gr, wr, a1, a2, a3, a4, a5, a6, a7, a8, a9, a10, a11, a12, a13) := by
  obtain ⟨ho, q, κ, hl⟩ := h.2 hF
  subst ho
  have hq := hq_lgq hl
  have hl' := hl
  obtain ⟨e1, e2, e3, e4, e5, e6, e7⟩ := hl
  have hv : vp_in (0 : Int32) 4 := vp_in_iff.mpr (by decide)
  refine br_f (by decide) (nm_r (e' := 0) (by rfl) (nm_r (e' := nI 0) (by rfl) ?_))
  refine pk_loop (fun n k s => wX_undo_23 post 0 1 pi cl gr wr n (nI k) s a2 a3 a4 a5 a6 a7 a8 a9 a10 a11 a12 a13) (fun k s => ∀ i, i < 340 → (a4 i = 0 ∨ ∃ k', k' < k ∧ κ k' = i) → s i = og i) q 0 a1 (by omega) ?_ ?_ ?_
  · intro i hi hz
    rcases hz with hz | ⟨k', hk', _⟩
    · exact e4 i hi hz
    · exact absurd hk' (by omega)
  · intro n s hs
    refine ⟨hv, ?_⟩
    rw [sb_cl0, e1, hq_z0]
    refine pk_le q q (fun _ => ?_) (fun z => absurd z (by omega))
    refine hq_forget rfl hl' (fun b4 b5 h4 h5 => nm_r (e' := 0) (by rfl) (H s a2 a3 b4 b5 ?_ ⟨fun _ => ⟨rfl, h4, h5⟩, fun z => absurd rfl z⟩))
    intro i hi
    by_cases hz : a4 i = 0
    · exact hs i hi (Or.inl hz)
    · exact hs i hi (Or.inr (e3 i hi hz))
  · intro n k s hk hs hw
    refine ⟨hv, ?_⟩
    rw [sb_cl0, e1, hq_z0]
    refine pk_le q k (fun z => absurd z (by omega)) (fun _ => ?_)
    obtain ⟨f1, f2, f3, f4⟩ := e2 k hk
    rw [nI_clamp (show k < 2 ^ 31 by omega), f2, f3, nI_clamp (show κ k < 2 ^ 31 by omega)]
    refine ⟨vp_in_nI (by omega) (by omega), vp_in_nI (by omega) (by omega), vp_in_nI (by omega) (by omega), nm_e (nm_r (nI_1 k) (hw _ ?_))⟩
    intro i hi hz
    by_cases hik : i = κ k
    · rw [hik, pk_us]
    · rw [pk_un hik]
      refine hs i hi ?_
      rcases hz with hz | ⟨k', hk', hkk⟩
      · exact Or.inl hz
      · refine Or.inr ⟨k', ?_, hkk⟩
        by_cases hk2 : k' = k
        · exact absurd (hk2 ▸ hkk).symm hik
        · omega
end
section
/-! the row of nodes, by value and number -/
def hq_key (c : Nat → Int32) (n : Nat) : Int := (c (18 + 7 * n)).toInt * 12 + n
def hq_row (m : Nat) (ρ : Nat → Nat) (c : Nat → Int32) : Prop :=
  m ≤ 12 ∧ c 2 = nI m ∧ (∀ k, k < m → ρ k < 12 ∧ c (4 + k) = nI (ρ k)) ∧ (∀ j k, j < k → k < m → hq_key c (ρ j) < hq_key c (ρ k))
def hq_rok (M : Nat) (c : Nat → Int32) : Prop :=
  ∃ m ρ, hq_row m ρ c ∧ (∀ k, k < m → M.testBit (ρ k) = true) ∧ (∀ n, n < 12 → M.testBit n = true → ∃ k, k < m ∧ ρ k = n)
theorem hq_na (r : Nat) : (16 : Int32) + 7 * nI r = nI (16 + 7 * r) := by
  rw [show (7 : Int32) = nI 7 from rfl, pk_mul, show (16 : Int32) = nI 16 from rfl, nI_add]
theorem hq_na2 (r : Nat) : (16 : Int32) + 7 * nI r + 2 = nI (18 + 7 * r) := by
  rw [hq_na, show (2 : Int32) = nI 2 from rfl, nI_add]
  congr 1
  omega
theorem hq_4 (r : Nat) : (4 : Int32) + nI r = nI (4 + r) := nI_add 4 r
theorem hq_add {post : St2 → Prop} {F : Nat} {og : Nat → Int32} {p0 v : Int32} {op pi cl gr wr : Int32} {a1 a2 a3 a4 a5 a6 a7 a8 a9 a10 a11 a12 a13 : Nat → Int32} (i : Nat) (hp : p0 = nI i) (hi : i < 340) (h : hq_tx F og op a1 a2 a3 a4 a5)
    (H : ∀ b2 b3 b4 b5, hq_tx F og op (upd a1 i (a1 i + v)) b2 b3 b4 b5 → post (op, pi, cl, gr, wr, (upd a1 i (a1 i + v)), b2, b3, b4, b5, a6, a7, a8, a9, a10, a11, a12, a13)) : wpX_add post (op, pi, cl, gr, wr, a1, a2, a3, a4, a5, a6, a7, a8, a9, a10, a11, a12, a13) p0 v := by
  subst hp
  refine ⟨vp_in_nI hi (by omega), ?_⟩
  rw [nI_clamp (show i < 2 ^ 31 by omega)]
  exact hq_put i rfl hi h H
theorem hq_place {post : Int32 → Prop} {op pi cl gr wr : Int32} {a1 a2 a3 a4 a5 a6 a7 a8 a9 a10 a11 a12 a13 : Nat → Int32} {m : Nat} {ρ : Nat → Nat} (h : hq_row m ρ a1) (v : Int32) (n : Nat) (hn : n < 12)
    (H : ∀ p, p ≤ m → (∀ k, k < p → hq_key a1 (ρ k) < v.toInt * 12 + n) → (∀ k, p ≤ k → k < m → v.toInt * 12 + n ≤ hq_key a1 (ρ k)) → post (nI p)) :
    wpX_placeFor post (op, pi, cl, gr, wr, a1, a2, a3, a4, a5, a6, a7, a8, a9, a10, a11, a12, a13) v (nI n) := by
  obtain ⟨h1, h2, h3, h4⟩ := h
  have main : ∀ d l r, l ≤ r → r ≤ m → r - l ≤ d → (∀ k, k < l → hq_key a1 (ρ k) < v.toInt * 12 + n) → (∀ k, r ≤ k → k < m → v.toInt * 12 + n ≤ hq_key a1 (ρ k)) →
      wX_placeFor_10 post v (nI n) op pi cl gr wr a1 a2 a3 a4 a5 a6 a7 a8 a9 a10 a11 a12 a13 (d + 1) (nI l) (nI r) := by
    intro d
    induction d with
    | zero =>
      intro l r hl hr hd L R
      refine pk_le r l (fun _ => H l (by omega) L (fun k hk => R k (by omega))) (fun z => absurd z (by omega))
    | succ d ih =>
      intro l r hl hr hd L R
      refine pk_le r l (fun _ => H l (by omega) L (fun k hk => R k (by omega))) (fun z => ?_)
      have e0 : (nI l + nI r) >>> ((1 : Int32) &&& 31) = nI ((l + r) / 2) := by
        rw [nI_add, pk_shrN (by omega) _ 1 (by decide)]
      refine nm_r e0 ?_
      obtain ⟨q, hq⟩ : ∃ q, q = (l + r) / 2 := ⟨_, rfl⟩
      rw [← hq]
      have hq1 : l ≤ q := by omega
      have hq2 : q < r := by omega
      obtain ⟨g1, g2⟩ := h3 q (by omega)
      rw [hq_4]
      refine ⟨vp_in_nI (by omega) (by omega), nm_r (e' := nI (ρ q)) (by rw [nI_clamp (by omega), g2]) ?_⟩
      show vp_in ((16 : Int32) + 7 * nI (ρ q) + 2) 340 ∧ _
      rw [hq_na2]
      refine ⟨vp_in_nI (by omega) (by omega), nm_r (e' := a1 (18 + 7 * ρ q)) (by rw [nI_clamp (by omega)]) ?_⟩
      have mono : ∀ j k, j ≤ k → k < m → hq_key a1 (ρ j) ≤ hq_key a1 (ρ k) := by
        intro j k hjk hk
        by_cases hj : j = k
        · rw [hj]
          exact Int.le_refl _
        · exact Int.le_of_lt (h4 j k (by omega) hk)
      have kq : hq_key a1 (ρ q) = (a1 (18 + 7 * ρ q)).toInt * 12 + ρ q := rfl
      have up : hq_key a1 (ρ q) < v.toInt * 12 + n → wX_placeFor_10 post v (nI n) op pi cl gr wr a1 a2 a3 a4 a5 a6 a7 a8 a9 a10 a11 a12 a13 (d + 1) (nI (q + 1)) (nI r) := fun hk =>
        ih (q + 1) r (by omega) hr (by omega) (fun k hk2 => Int.lt_of_le_of_lt (mono k q (by omega) (by omega)) hk) R
      have dn : v.toInt * 12 + n ≤ hq_key a1 (ρ q) → wX_placeFor_10 post v (nI n) op pi cl gr wr a1 a2 a3 a4 a5 a6 a7 a8 a9 a10 a11 a12 a13 (d + 1) (nI l) (nI q) := fun hk =>
        ih l q (by omega) (by omega) (by omega) L (fun k hk2 hk3 => Int.le_trans hk (mono q k hk2 hk3))
      refine br_c (fun z1 => nm_r (nI_1 q) (up ?_)) (fun z1 => br_c (fun z2 => br_c (fun z3 => dn ?_) (fun z3 => nm_r (nI_1 q) (up ?_))) (fun z2 => dn ?_))
      · have := Int32.lt_iff_toInt_lt.mp z1
        omega
      · have z3 := (nI_leI (by omega) (by omega)).mp z3
        rw [kq, z2]
        omega
      · have z3 : ¬ n ≤ ρ q := fun w => z3 ((nI_leI (by omega) (by omega)).mpr w)
        rw [kq, z2]
        omega
      · have z1 : ¬ (a1 (18 + 7 * ρ q)).toInt < v.toInt := fun w => z1 (Int32.lt_iff_toInt_lt.mpr w)
        have z2 : ¬ (a1 (18 + 7 * ρ q)).toInt = v.toInt := fun w => z2 (Int32.toInt_inj.mp w)
        rw [kq]
        omega
  refine nm_r h2 ⟨m + 1, ?_⟩
  exact main m 0 m (by omega) (by omega) (by omega) (fun k hk => absurd hk (by omega)) (fun k hk hk2 => absurd hk (by omega))
/-- what an insertion at place p leaves -/
def hq_insd (m p n : Nat) (c b : Nat → Int32) : Prop :=
  (∀ j, (j < 4 ∨ 4 + m < j) → j ≠ 2 → b j = c j) ∧ b 2 = c 2 + 1 ∧ (∀ j, j < p → b (4 + j) = c (4 + j)) ∧ b (4 + p) = nI n ∧ (∀ j, p < j → j ≤ m → b (4 + j) = c (4 + j - 1))
theorem hq_ins15 {post : St2 → Prop} {F : Nat} {og c : Nat → Int32} {op pi cl gr wr : Int32} {a6 a7 a8 a9 a10 a11 a12 a13 : Nat → Int32} {m p n : Nat} (hm : m < 12)
    (H : ∀ b1 b2 b3 b4 b5, hq_tx F og op b1 b2 b3 b4 b5 → hq_insd m p n c b1 → post (op, pi, cl, gr, wr, b1, b2, b3, b4, b5, a6, a7, a8, a9, a10, a11, a12, a13)) :
    ∀ (d k : Nat) (a1 a2 a3 a4 a5 : Nat → Int32), k = p + d → k ≤ m → hq_tx F og op a1 a2 a3 a4 a5 → (∀ j, (j ≤ 4 + k ∨ 4 + m < j) → a1 j = c j) → (∀ j, k < j → j ≤ m → a1 (4 + j) = c (4 + j - 1)) →
      wX_insertInRow_15 post (nI n) (nI p) (d + 1) (nI k) op pi cl gr wr a1 a2 a3 a4 a5 a6 a7 a8 a9 a10 a11 a12 a13 := by
  intro d
  induction d with
  | zero =>
    intro k a1 a2 a3 a4 a5 hk hkm ht h1 h2
    refine pk_le k p (fun _ => ?_) (fun z => absurd z (by omega))
    refine hq_put (4 + p) (hq_4 p) (by omega) ht (fun b2 b3 b4 b5 ht => ?_)
    refine hq_add 2 rfl (by omega) ht (fun b2 b3 b4 b5 ht => H _ _ _ _ _ ht ⟨?_, ?_, ?_, ?_, ?_⟩)
    · intro j hj hj2
      rw [pk_un hj2, pk_un (by omega)]
      exact h1 j (by omega)
    · rw [pk_us, pk_un (by omega), h1 2 (by omega)]
    · intro j hj
      rw [pk_un (by omega), pk_un (by omega)]
      exact h1 _ (by omega)
    · rw [pk_un (by omega), pk_us]
    · intro j hj hjm
      rw [pk_un (by omega), pk_un (by omega)]
      exact h2 j (by omega) hjm
  | succ d ih =>
    intro k a1 a2 a3 a4 a5 hk hkm ht h1 h2
    refine pk_le k p (fun z => absurd z (by omega)) (fun _ => ?_)
    have e1 : (4 : Int32) + nI k - 1 = nI (4 + k - 1) := by
      rw [hq_4]
      exact pk_sub (b := 1) (by omega)
    rw [e1, nI_clamp (show 4 + k - 1 < 2 ^ 31 by omega)]
    refine ⟨vp_in_nI (by omega) (by omega), hq_put (4 + k) (hq_4 k) (by omega) ht (fun b2 b3 b4 b5 ht => nm_r (e' := nI (k - 1)) (sb_m1 (by omega)) ?_)⟩
    refine ih (k - 1) _ _ _ _ _ (by omega) (by omega) ht ?_ ?_
    · intro j hj
      rw [pk_un (by omega)]
      exact h1 j (by omega)
    · intro j hj hjm
      by_cases hjk : j = k
      · rw [hjk, pk_us]
        exact h1 _ (by omega)
      · rw [pk_un (by omega)]
        exact h2 j (by omega) hjm
theorem hq_insert {post : St2 → Prop} {F M : Nat} {og : Nat → Int32} {p0 v : Int32} {op pi cl gr wr : Int32} {a1 a2 a3 a4 a5 a6 a7 a8 a9 a10 a11 a12 a13 : Nat → Int32} {n : Nat} (hp : p0 = nI n) (hn : n < 12) (h : hq_tx F og op a1 a2 a3 a4 a5) (hr : hq_rok M a1) (hM : M.testBit n = false)
    {m : Nat} (hm : m < 12) (h2 : a1 2 = nI m) (hv : a1 (18 + 7 * n) = v)
    (H : ∀ b1 b2 b3 b4 b5, hq_tx F og op b1 b2 b3 b4 b5 → (∀ j, (j < 4 ∨ 16 ≤ j) → j ≠ 2 → b1 j = a1 j) → b1 2 = nI (m + 1) → hq_rok (M ||| 2 ^ n) b1 → post (op, pi, cl, gr, wr, b1, b2, b3, b4, b5, a6, a7, a8, a9, a10, a11, a12, a13)) :
    wpX_insertInRow post (op, pi, cl, gr, wr, a1, a2, a3, a4, a5, a6, a7, a8, a9, a10, a11, a12, a13) p0 v := by
  subst hp
  obtain ⟨m', ρ, hrow, hr1, hr2⟩ := hr
  have hrow' := hrow
  obtain ⟨g1, g2, g3, g4⟩ := hrow
  have hmm : m' = m := (nI_eq (by omega) (by omega)).mp (g2.symm.trans h2)
  subst hmm
  refine hq_place hrow' v n hn (fun p hp L R => nm_r g2 ⟨m' - p + 1, ?_⟩)
  refine hq_ins15 (c := a1) hm (fun b1 b2 b3 b4 b5 ht hi => ?_) (m' - p) m' a1 a2 a3 a4 a5 (by omega) (by omega) h (fun j _ => rfl) (fun j hj hj2 => absurd hj (by omega))
  obtain ⟨i1, i2, i3, i4, i5⟩ := hi
  have kk : ∀ r, hq_key b1 r = hq_key a1 r := by
    intro r
    show (b1 (18 + 7 * r)).toInt * 12 + (r : Int) = (a1 (18 + 7 * r)).toInt * 12 + (r : Int)
    rw [i1 (18 + 7 * r) (by omega) (by omega)]
  have kn : hq_key a1 n = v.toInt * 12 + n := by
    show (a1 (18 + 7 * n)).toInt * 12 + (n : Int) = _
    rw [hv]
  have R' : ∀ k, p ≤ k → k < m' → v.toInt * 12 + n < hq_key a1 (ρ k) := by
    intro k hk hk2
    have t1 := R k hk hk2
    have t2 : ρ k ≠ n := fun z => by
      have := hr1 k hk2
      rw [z, hM] at this
      exact absurd this (by decide)
    have t3 := (g3 k hk2).1
    have t4 : hq_key a1 (ρ k) = (a1 (18 + 7 * ρ k)).toInt * 12 + (ρ k : Int) := rfl
    omega
  refine H b1 b2 b3 b4 b5 ht (fun j hj hj2 => i1 j (by omega) hj2) (by rw [i2, g2, nI_1]) ?_
  refine ⟨m' + 1, fun j => if j < p then ρ j else if j = p then n else ρ (j - 1), ⟨by omega, by rw [i2, g2, nI_1], ?_, ?_⟩, ?_, ?_⟩
  · intro k hk
    dsimp only
    by_cases c1 : k < p
    · rw [if_pos c1, i3 k c1]
      exact g3 k (by omega)
    · rw [if_neg c1]
      by_cases c2 : k = p
      · rw [if_pos c2, c2]
        exact ⟨hn, i4⟩
      · rw [if_neg c2, i5 k (by omega) (by omega), show 4 + k - 1 = 4 + (k - 1) by omega]
        exact g3 (k - 1) (by omega)
  · intro j k hjk hk
    dsimp only
    rw [kk, kk]
    by_cases c1 : k < p
    · rw [if_pos c1, if_pos (show j < p by omega)]
      exact g4 j k hjk (by omega)
    · rw [if_neg c1]
      by_cases c2 : k = p
      · rw [if_pos c2, if_pos (show j < p by omega), kn]
        exact L j (by omega)
      · rw [if_neg c2]
        by_cases d1 : j < p
        · rw [if_pos d1]
          exact g4 j (k - 1) (by omega) (by omega)
        · rw [if_neg d1]
          by_cases d2 : j = p
          · rw [if_pos d2, kn]
            exact R' (k - 1) (by omega) (by omega)
          · rw [if_neg d2]
            exact g4 (j - 1) (k - 1) (by omega) (by omega)
  · intro k hk
    dsimp only
    rw [Nat.testBit_or]
    by_cases c1 : k < p
    · rw [if_pos c1, hr1 k (by omega)]
      rfl
    · rw [if_neg c1]
      by_cases c2 : k = p
      · rw [if_pos c2, Nat.testBit_two_pow_self]
        exact Bool.or_true _
      · rw [if_neg c2, hr1 (k - 1) (by omega)]
        rfl
  · intro r hr hrM
    rw [Nat.testBit_or] at hrM
    by_cases c : r = n
    · exact ⟨p, by omega, by dsimp only; rw [if_neg (by omega), if_pos rfl, c]⟩
    · rw [Nat.testBit_two_pow_of_ne (fun z => c z.symm), Bool.or_false] at hrM
      obtain ⟨k, hk, hk2⟩ := hr2 r hr hrM
      by_cases c1 : k < p
      · exact ⟨k, by omega, by dsimp only; rw [if_pos c1, hk2]⟩
      · exact ⟨k + 1, by omega, by dsimp only; rw [if_neg (by omega), if_neg (by omega), show k + 1 - 1 = k by omega, hk2]⟩
theorem hq_rem25 {post : St2 → Prop} {F : Nat} {og c : Nat → Int32} {op pi cl gr wr : Int32} {a6 a7 a8 a9 a10 a11 a12 a13 : Nat → Int32} {m p : Nat} (hm : m < 12) (hc : c 2 = nI m)
    (H : ∀ b1 b2 b3 b4 b5, hq_tx F og op b1 b2 b3 b4 b5 → (∀ j, (j < 4 + p ∨ 4 + m ≤ j) → b1 j = c j) → (∀ j, p ≤ j → j < m → b1 (4 + j) = c (4 + j + 1)) → post (op, pi, cl, gr, wr, b1, b2, b3, b4, b5, a6, a7, a8, a9, a10, a11, a12, a13)) :
    ∀ (d k : Nat) (a1 a2 a3 a4 a5 : Nat → Int32), k + d = m → p ≤ k → hq_tx F og op a1 a2 a3 a4 a5 → (∀ j, (j < 4 + p ∨ 4 + k ≤ j) → a1 j = c j) → (∀ j, p ≤ j → j < k → a1 (4 + j) = c (4 + j + 1)) →
      wX_removeFromRow_25 post (d + 1) (nI k) op pi cl gr wr a1 a2 a3 a4 a5 a6 a7 a8 a9 a10 a11 a12 a13 := by
  intro d
  induction d with
  | zero =>
    intro k a1 a2 a3 a4 a5 hk hpk ht h1 h2
    refine pk_le m k (fun _ => H a1 a2 a3 a4 a5 ht (fun j hj => h1 j (by omega)) (fun j hj hj2 => h2 j hj (by omega))) (fun z => absurd z (by omega)) (by rw [h1 2 (by omega), hc])
  | succ d ih =>
    intro k a1 a2 a3 a4 a5 hk hpk ht h1 h2
    refine pk_le m k (fun z => absurd z (by omega)) (fun _ => ?_) (by rw [h1 2 (by omega), hc])
    rw [hq_4, nI_1, nI_clamp (show 4 + k + 1 < 2 ^ 31 by omega)]
    refine ⟨vp_in_nI (by omega) (by omega), hq_put (4 + k) rfl (by omega) ht (fun b2 b3 b4 b5 ht => nm_r (nI_1 k) ?_)⟩
    refine ih (k + 1) _ _ _ _ _ (by omega) (by omega) ht ?_ ?_
    · intro j hj
      rw [pk_un (by omega)]
      exact h1 j (by omega)
    · intro j hj hjk
      by_cases c1 : j = k
      · rw [c1, pk_us]
        exact h1 _ (by omega)
      · rw [pk_un (by omega)]
        exact h2 j hj (by omega)
theorem hq_remove {post : St2 → Prop} {F M : Nat} {og : Nat → Int32} {p0 : Int32} {op pi cl gr wr : Int32} {a1 a2 a3 a4 a5 a6 a7 a8 a9 a10 a11 a12 a13 : Nat → Int32} {n : Nat} (hp : p0 = nI n) (hn : n < 12) (h : hq_tx F og op a1 a2 a3 a4 a5) (hr : hq_rok M a1) (hM : M.testBit n = true)
    {m : Nat} (hm : m < 12) (h2 : a1 2 = nI (m + 1))
    (H : ∀ b1 b2 b3 b4 b5, hq_tx F og op b1 b2 b3 b4 b5 → (∀ j, (j < 4 ∨ 16 ≤ j) → j ≠ 2 → b1 j = a1 j) → b1 2 = nI m → hq_rok (M ^^^ 2 ^ n) b1 → post (op, pi, cl, gr, wr, b1, b2, b3, b4, b5, a6, a7, a8, a9, a10, a11, a12, a13)) :
    wpX_removeFromRow post (op, pi, cl, gr, wr, a1, a2, a3, a4, a5, a6, a7, a8, a9, a10, a11, a12, a13) p0 := by
  subst hp
  obtain ⟨m', ρ, hrow, hr1, hr2⟩ := hr
  have hrow' := hrow
  obtain ⟨g1, g2, g3, g4⟩ := hrow
  have hmm : m' = m + 1 := (nI_eq (by omega) (by omega)).mp (g2.symm.trans h2)
  subst hmm
  show vp_in ((16 : Int32) + 7 * nI n + 2) 340 ∧ _
  rw [hq_na2, nI_clamp (show 18 + 7 * n < 2 ^ 31 by omega)]
  refine ⟨vp_in_nI (by omega) (by omega), hq_place hrow' _ n hn (fun p hp L R => ?_)⟩
  have kn : hq_key a1 n = (a1 (18 + 7 * n)).toInt * 12 + n := rfl
  rw [← kn] at L R
  obtain ⟨k0, hk0, hk1⟩ := hr2 n hn hM
  have hpk : p = k0 := by
    rcases Nat.lt_trichotomy p k0 with z | z | z
    · have t1 := R p (Nat.le_refl p) (by omega)
      have t2 := g4 p k0 z hk0
      rw [hk1] at t2
      omega
    · exact z
    · have t1 := L k0 z
      rw [hk1] at t1
      omega
  subst hpk
  have sep : ∀ k, k < m + 1 → k ≠ p → ρ k ≠ n := by
    intro k hk hkp z
    rcases Nat.lt_trichotomy k p with w | w | w
    · have t1 := g4 k p w hk0
      rw [z, hk1] at t1
      omega
    · exact hkp w
    · have t1 := g4 p k w hk
      rw [z, hk1] at t1
      omega
  refine hq_add 2 rfl (by omega) h (fun b2 b3 b4 b5 ht => ⟨m - p + 1, ?_⟩)
  have e2 : a1 2 + (-1) = nI m := by rw [h2, pk_m1]
  rw [e2] at ht ⊢
  refine hq_rem25 (c := upd a1 2 (nI m)) (m := m) (p := p) hm pk_us (fun b1 b2 b3 b4 b5 ht i1 i2 => ?_) (m - p) p _ _ _ _ _ (by omega) (by omega) ht (fun j _ => rfl) (fun j hj hj2 => absurd hj (by omega))
  have i1' : ∀ j, (j < 4 + p ∨ 4 + m ≤ j) → j ≠ 2 → b1 j = a1 j := by
    intro j hj hj2
    rw [i1 j hj, pk_un hj2]
  have i2' : ∀ j, p ≤ j → j < m → b1 (4 + j) = a1 (4 + j + 1) := by
    intro j hj hj2
    rw [i2 j hj hj2, pk_un (by omega)]
  have i3 : b1 2 = nI m := by rw [i1 2 (by omega), pk_us]
  have kk : ∀ r, hq_key b1 r = hq_key a1 r := by
    intro r
    show (b1 (18 + 7 * r)).toInt * 12 + (r : Int) = (a1 (18 + 7 * r)).toInt * 12 + (r : Int)
    rw [i1' (18 + 7 * r) (by omega) (by omega)]
  refine H b1 b2 b3 b4 b5 ht (fun j hj hj2 => i1' j (by omega) hj2) i3 ?_
  refine ⟨m, fun j => if j < p then ρ j else ρ (j + 1), ⟨by omega, i3, ?_, ?_⟩, ?_, ?_⟩
  · intro k hk
    dsimp only
    by_cases c1 : k < p
    · rw [if_pos c1, i1' (4 + k) (by omega) (by omega)]
      exact g3 k (by omega)
    · rw [if_neg c1, i2' k (by omega) hk]
      exact g3 (k + 1) (by omega)
  · intro j k hjk hk
    dsimp only
    rw [kk, kk]
    by_cases c1 : k < p
    · rw [if_pos c1, if_pos (show j < p by omega)]
      exact g4 j k hjk (by omega)
    · rw [if_neg c1]
      by_cases d1 : j < p
      · rw [if_pos d1]
        exact g4 j (k + 1) (by omega) (by omega)
      · rw [if_neg d1]
        exact g4 (j + 1) (k + 1) (by omega) (by omega)
  · intro k hk
    dsimp only
    rw [Nat.testBit_xor]
    by_cases c1 : k < p
    · rw [if_pos c1, hr1 k (by omega), Nat.testBit_two_pow_of_ne (fun z => sep k (by omega) (by omega) z.symm)]
      rfl
    · rw [if_neg c1, hr1 (k + 1) (by omega), Nat.testBit_two_pow_of_ne (fun z => sep (k + 1) (by omega) (by omega) z.symm)]
      rfl
  · intro r hr hrM
    rw [Nat.testBit_xor] at hrM
    by_cases c : r = n
    · rw [c, hM, Nat.testBit_two_pow_self] at hrM
      exact absurd hrM (by decide)
    · rw [Nat.testBit_two_pow_of_ne (fun z => c z.symm), Bool.xor_false] at hrM
      obtain ⟨k, hk, hk2⟩ := hr2 r hr hrM
      rcases Nat.lt_trichotomy k p with w | w | w
      · exact ⟨k, by omega, by dsimp only; rw [if_pos w, hk2]⟩
      · exact absurd (by rw [← hk2, w, hk1]) c
      · exact ⟨k - 1, by omega, by dsimp only; rw [if_neg (by omega), show k - 1 + 1 = k by omega, hk2]⟩
end
section
/-! the state and its code; what is answered by hand: put, the row, transactions -/
/-- open, cells and log against the codes: A cells, M who is in the row, F in a transaction, S and N what was saved -/
def ab_rg (e : Nat → Int32) (A M F S N : Nat) (op : Int32) (a1 a2 a3 a4 a5 : Nat → Int32) : Prop :=
  ab_rc e A a1 ∧ hq_rok M a1 ∧ ∃ og, hq_tx F og op a1 a2 a3 a4 a5 ∧ (F ≠ 0 → ab_rc e S og ∧ hq_rok N og)
theorem hq_rokC {M : Nat} {b c : Nat → Int32} (h : hq_rok M c) (hb : ∀ j, j < 340 → (j = 2 ∨ (4 ≤ j ∧ j < 16) ∨ (∃ n, M.testBit n = true ∧ j = 18 + 7 * n)) → b j = c j) : hq_rok M b := by
  obtain ⟨m, ρ, ⟨h1, h2, h3, h4⟩, h5, h6⟩ := h
  have kk : ∀ k, k < m → hq_key b (ρ k) = hq_key c (ρ k) := by
    intro k hk
    show (b (18 + 7 * ρ k)).toInt * 12 + (ρ k : Int) = (c (18 + 7 * ρ k)).toInt * 12 + (ρ k : Int)
    rw [hb (18 + 7 * ρ k) (by have := (h3 k hk).1; omega) (Or.inr (Or.inr ⟨ρ k, h5 k hk, rfl⟩))]
  refine ⟨m, ρ, ⟨h1, ?_, ?_, ?_⟩, h5, h6⟩
  · rw [hb 2 (by omega) (Or.inl rfl), h2]
  · intro k hk
    rw [hb (4 + k) (by omega) (Or.inr (Or.inl ⟨by omega, by omega⟩))]
    exact h3 k hk
  · intro j k hjk hk
    rw [kk j (by omega), kk k hk]
    exact h4 j k hjk hk
theorem ab_tb {M n : Nat} : (Nat.beq (Nat.mod (Nat.shiftRight M n) 2) 0 = true ↔ M.testBit n = false) := by
  have h : M.testBit n = decide ((M >>> n) % 2 = 1) := by
    rw [Nat.testBit_eq_decide_div_mod_eq, Nat.shiftRight_eq_div_pow]
  rw [h, ab_beq]
  show decide ((M >>> n) % 2 = 0) = true ↔ _
  rw [decide_eq_true_eq, decide_eq_false_iff_not]
  omega
/-- may the cell of code i be written without touching the row? -/
noncomputable def ab_okp (M i : Nat) : Bool :=
  ab_ite (Nat.ble 116 i) true (ab_ite (Nat.ble 32 i) (ab_ite (Nat.beq (Nat.mod (Nat.sub i 32) 7) 2) (Nat.beq (Nat.mod (Nat.shiftRight M (Nat.div (Nat.sub i 32) 7)) 2) 0) true)
    (ab_ite (Nat.beq i 16) true (ab_ite (Nat.beq i 17) true (Nat.beq i 19))))
theorem ab_okpS {M i : Nat} (h : ab_okp M i = true) (h16 : 16 ≤ i) : ∀ j, (j = 2 ∨ (4 ≤ j ∧ j < 16) ∨ (∃ n, n < 12 ∧ M.testBit n = true ∧ j = 18 + 7 * n)) → j ≠ i - 16 := by
  intro j hj z
  unfold ab_okp at h
  cases h1 : Nat.ble 116 i
  · rw [h1] at h
    have h1 := ab_bf h1
    cases h2 : Nat.ble 32 i
    · rw [h2] at h
      have h2 := ab_bf h2
      cases h3 : Nat.beq i 16
      · rw [h3] at h
        cases h4 : Nat.beq i 17
        · rw [h4] at h
          have h5 : i = 19 := ab_qt (show Nat.beq i 19 = true from h)
          rcases hj with hj | hj | ⟨n, _, _, hj⟩ <;> omega
        · have h4 := ab_qt h4
          rcases hj with hj | hj | ⟨n, _, _, hj⟩ <;> omega
      · have h3 := ab_qt h3
        rcases hj with hj | hj | ⟨n, _, _, hj⟩ <;> omega
    · rw [h2] at h
      have h2 := ab_bt h2
      rcases hj with hj | hj | ⟨n, _, hn, hj⟩
      · omega
      · omega
      · have h6 : i - 32 = 7 * n + 2 := by omega
        have h7 : Nat.beq (Nat.mod (Nat.sub i 32) 7) 2 = true := by
          rw [ab_beq]
          show decide ((i - 32) % 7 = 2) = true
          rw [decide_eq_true_eq]
          omega
        rw [h7] at h
        have h8 := ab_tb.mp (show Nat.beq (Nat.mod (Nat.shiftRight M (Nat.div (Nat.sub i 32) 7)) 2) 0 = true from h)
        have h9 : Nat.div (Nat.sub i 32) 7 = n := by
          show (i - 32) / 7 = n
          omega
        rw [h9, hn] at h8
        exact absurd h8 (by decide)
  · have h1 := ab_bt h1
    rcases hj with hj | hj | ⟨n, _, _, hj⟩ <;> omega
theorem hq_rokP {M i : Nat} {c : Nat → Int32} {v : Int32} (h : hq_rok M c) (hi : ∀ j, (j = 2 ∨ (4 ≤ j ∧ j < 16) ∨ (∃ n, n < 12 ∧ M.testBit n = true ∧ j = 18 + 7 * n)) → j ≠ i) : hq_rok M (upd c i v) := by
  obtain ⟨m, ρ, ⟨h1, h2, h3, h4⟩, h5, h6⟩ := h
  have kk : ∀ k, k < m → hq_key (upd c i v) (ρ k) = hq_key c (ρ k) := by
    intro k hk
    show (upd c i v (18 + 7 * ρ k)).toInt * 12 + (ρ k : Int) = (c (18 + 7 * ρ k)).toInt * 12 + (ρ k : Int)
    rw [pk_un (hi _ (Or.inr (Or.inr ⟨ρ k, (h3 k hk).1, h5 k hk, rfl⟩)))]
  refine ⟨m, ρ, ⟨h1, ?_, ?_, ?_⟩, h5, h6⟩
  · rw [pk_un (hi 2 (Or.inl rfl)), h2]
  · intro k hk
    rw [pk_un (hi (4 + k) (Or.inr (Or.inl ⟨by omega, by omega⟩)))]
    exact h3 k hk
  · intro j k hjk hk
    rw [kk j (by omega), kk k hk]
    exact h4 j k hjk hk
noncomputable def bz_put (k : Nat → Nat → Nat → Nat → Nat → Nat → Nat → Nat → Nat → Nat → Nat → Nat → Nat → Nat → Nat → Nat → Nat → Bool) (A M F S N P C G W B6 B7 B8 B9 B10 B11 B12 B13 : Nat) (X_p0 X_p1 : Nat) : Bool :=
  ab_vin 340 X_p0 (ab_ite (ab_okp M X_p0) (ab_str (ab_set A (Nat.sub X_p0 16) (ab_cut X_p1)) (fun A' => k A' M F S N P C G W B6 B7 B8 B9 B10 B11 B12 B13)) false)
theorem sz_put {e : Nat → Int32} {post : St2 → Prop} {k : Nat → Nat → Nat → Nat → Nat → Nat → Nat → Nat → Nat → Nat → Nat → Nat → Nat → Nat → Nat → Nat → Nat → Bool} {A M F S N P C G W B6 B7 B8 B9 B10 B11 B12 B13 : Nat} {X_p0 X_p1 : Nat} {p0 p1 : Int32} {op pi cl gr wr : Int32} {a1 a2 a3 a4 a5 a6 a7 a8 a9 a10 a11 a12 a13 : Nat → Int32} (hb : bz_put k A M F S N P C G W B6 B7 B8 B9 B10 B11 B12 B13 X_p0 X_p1 = true) (hk : ∀ ⦃A M F S N P C G W B6 B7 B8 B9 B10 B11 B12 B13 : Nat⦄ ⦃op pi cl gr wr : Int32⦄ ⦃c1 c2 c3 c4 c5 c6 c7 c8 c9 c10 c11 c12 c13 : Nat → Int32⦄, k A M F S N P C G W B6 B7 B8 B9 B10 B11 B12 B13 = true → ab_rg e A M F S N op c1 c2 c3 c4 c5 → ab_rv e P pi → ab_rv e C cl → ab_rv e G gr → ab_rv e W wr → ab_ra e 12 B6 c6 → ab_ra e 12 B7 c7 → ab_ra e 12 B8 c8 → ab_ra e 12 B9 c9 → ab_ra e 12 B10 c10 → ab_ra e 12 B11 c11 → ab_ra e 12 B12 c12 → ab_ra e 12 B13 c13 → post (op, pi, cl, gr, wr, c1, c2, c3, c4, c5, c6, c7, c8, c9, c10, c11, c12, c13)) (hg : ab_rg e A M F S N op a1 a2 a3 a4 a5) (hP : ab_rv e P pi) (hC : ab_rv e C cl) (hG : ab_rv e G gr) (hW : ab_rv e W wr) (q6 : ab_ra e 12 B6 a6) (q7 : ab_ra e 12 B7 a7) (q8 : ab_ra e 12 B8 a8) (q9 : ab_ra e 12 B9 a9) (q10 : ab_ra e 12 B10 a10) (q11 : ab_ra e 12 B11 a11) (q12 : ab_ra e 12 B12 a12) (q13 : ab_ra e 12 B13 a13) (h_p0 : ab_rv e X_p0 p0) (h_p1 : ab_rv e X_p1 p1) :
    wpX_put post (op, pi, cl, gr, wr, a1, a2, a3, a4, a5, a6, a7, a8, a9, a10, a11, a12, a13) p0 p1 := by
  obtain ⟨h1, hb⟩ := ab_itT hb
  obtain ⟨h2, hb⟩ := ab_itF hb
  obtain ⟨h3, hb⟩ := ab_itT hb
  have h1 := ab_bt h1
  have h2 : X_p0 < 16 + 340 := ab_bf h2
  have hb := ab_strS hb
  obtain ⟨g1, g2, og, g3, g4⟩ := hg
  refine hq_put (X_p0 - 16) (ab_nn h_p0 (by omega) h1) (by omega) g3 (fun b2 b3 b4 b5 ht => ?_)
  exact hk hb ⟨ab_setC g1 h_p1, hq_rokP g2 (ab_okpS h3 h1), og, ht, g4⟩ hP hC hG hW q6 q7 q8 q9 q10 q11 q12 q13
noncomputable def bz_insertInRow (k : Nat → Nat → Nat → Nat → Nat → Nat → Nat → Nat → Nat → Nat → Nat → Nat → Nat → Nat → Nat → Nat → Nat → Bool) (A M F S N P C G W B6 B7 B8 B9 B10 B11 B12 B13 : Nat) (X_p0 X_p1 : Nat) : Bool :=
  ab_vin 12 X_p0 (ab_ite (Nat.beq (Nat.mod (Nat.shiftRight M (Nat.sub X_p0 16)) 2) 0) (ab_ite (Nat.ble 2147483648 X_p1) false (ab_ite (Nat.beq (ab_get A (Nat.add 18 (Nat.mul 7 (Nat.sub X_p0 16)))) X_p1)
    (ab_vin 12 (ab_get A 2) (ab_str (ab_set A 2 (ab_cut (Nat.succ (ab_get A 2)))) (fun A' => ab_str (Nat.lor M (Nat.pow 2 (Nat.sub X_p0 16))) (fun M' => k A' M' F S N P C G W B6 B7 B8 B9 B10 B11 B12 B13)))) false)) false)
theorem sz_insertInRow {e : Nat → Int32} {post : St2 → Prop} {k : Nat → Nat → Nat → Nat → Nat → Nat → Nat → Nat → Nat → Nat → Nat → Nat → Nat → Nat → Nat → Nat → Nat → Bool} {A M F S N P C G W B6 B7 B8 B9 B10 B11 B12 B13 : Nat} {X_p0 X_p1 : Nat} {p0 p1 : Int32} {op pi cl gr wr : Int32} {a1 a2 a3 a4 a5 a6 a7 a8 a9 a10 a11 a12 a13 : Nat → Int32} (hb : bz_insertInRow k A M F S N P C G W B6 B7 B8 B9 B10 B11 B12 B13 X_p0 X_p1 = true) (hk : ∀ ⦃A M F S N P C G W B6 B7 B8 B9 B10 B11 B12 B13 : Nat⦄ ⦃op pi cl gr wr : Int32⦄ ⦃c1 c2 c3 c4 c5 c6 c7 c8 c9 c10 c11 c12 c13 : Nat → Int32⦄, k A M F S N P C G W B6 B7 B8 B9 B10 B11 B12 B13 = true → ab_rg e A M F S N op c1 c2 c3 c4 c5 → ab_rv e P pi → ab_rv e C cl → ab_rv e G gr → ab_rv e W wr → ab_ra e 12 B6 c6 → ab_ra e 12 B7 c7 → ab_ra e 12 B8 c8 → ab_ra e 12 B9 c9 → ab_ra e 12 B10 c10 → ab_ra e 12 B11 c11 → ab_ra e 12 B12 c12 → ab_ra e 12 B13 c13 → post (op, pi, cl, gr, wr, c1, c2, c3, c4, c5, c6, c7, c8, c9, c10, c11, c12, c13)) (hg : ab_rg e A M F S N op a1 a2 a3 a4 a5) (hP : ab_rv e P pi) (hC : ab_rv e C cl) (hG : ab_rv e G gr) (hW : ab_rv e W wr) (q6 : ab_ra e 12 B6 a6) (q7 : ab_ra e 12 B7 a7) (q8 : ab_ra e 12 B8 a8) (q9 : ab_ra e 12 B9 a9) (q10 : ab_ra e 12 B10 a10) (q11 : ab_ra e 12 B11 a11) (q12 : ab_ra e 12 B12 a12) (q13 : ab_ra e 12 B13 a13) (h_p0 : ab_rv e X_p0 p0) (h_p1 : ab_rv e X_p1 p1) :
    wpX_insertInRow post (op, pi, cl, gr, wr, a1, a2, a3, a4, a5, a6, a7, a8, a9, a10, a11, a12, a13) p0 p1 := by
  obtain ⟨h1, hb⟩ := ab_itT hb
  obtain ⟨h2, hb⟩ := ab_itF hb
  obtain ⟨h3, hb⟩ := ab_itT hb
  obtain ⟨h4, hb⟩ := ab_itF hb
  obtain ⟨h5, hb⟩ := ab_itT hb
  obtain ⟨h6, hb⟩ := ab_itT hb
  obtain ⟨h7, hb⟩ := ab_itF hb
  have h1 := ab_bt h1
  have h2 : X_p0 < 16 + 12 := ab_bf h2
  have h4 := ab_bf h4
  have h5 : ab_get A (18 + 7 * (X_p0 - 16)) = X_p1 := ab_qt h5
  have h6 := ab_bt h6
  have h7 : ab_get A 2 < 16 + 12 := ab_bf h7
  have hb := ab_strS hb
  have hb := ab_strS hb
  obtain ⟨g1, g2, og, g3, g4⟩ := hg
  have e2 := ab_nn (g1 2 (by omega) (by omega)) (by omega) h6
  have ev : a1 (18 + 7 * (X_p0 - 16)) = p1 := by
    have := g1 (18 + 7 * (X_p0 - 16)) (by omega) (by omega)
    rw [h5] at this
    exact ab_rvU this h_p1 h4
  refine hq_insert (n := X_p0 - 16) (m := ab_get A 2 - 16) (ab_nn h_p0 (by omega) h1) (by omega) g3 g2 (ab_tb.mp h3) (by omega) e2 ev (fun b1 b2 b3 b4 b5 ht f1 f2 f3 => ?_)
  refine hk hb ⟨?_, f3, og, ht, g4⟩ hP hC hG hW q6 q7 q8 q9 q10 q11 q12 q13
  intro j hj hj2
  rw [ab_getset (ab_cutL _)]
  by_cases hj3 : j = 2
  · rw [if_pos hj3, hj3, f2]
    refine ab_cutS ?_
    have : ab_rv e ((ab_get A 2 - 16 + 1) + 16) (nI (ab_get A 2 - 16 + 1)) := ab_ofn (by omega)
    rw [show ab_get A 2 - 16 + 1 + 16 = Nat.succ (ab_get A 2) by omega] at this
    exact this
  · rw [if_neg hj3, f1 j (by omega) hj3]
    exact g1 j hj hj2
noncomputable def bz_removeFromRow (k : Nat → Nat → Nat → Nat → Nat → Nat → Nat → Nat → Nat → Nat → Nat → Nat → Nat → Nat → Nat → Nat → Nat → Bool) (A M F S N P C G W B6 B7 B8 B9 B10 B11 B12 B13 : Nat) (X_p0 : Nat) : Bool :=
  ab_vin 12 X_p0 (ab_ite (Nat.beq (Nat.mod (Nat.shiftRight M (Nat.sub X_p0 16)) 2) 0) false
    (ab_ite (Nat.ble 17 (ab_get A 2)) (ab_ite (Nat.ble 29 (ab_get A 2)) false (ab_str (ab_set A 2 (ab_cut (Nat.pred (ab_get A 2)))) (fun A' => ab_str (Nat.xor M (Nat.pow 2 (Nat.sub X_p0 16))) (fun M' => k A' M' F S N P C G W B6 B7 B8 B9 B10 B11 B12 B13)))) false))
theorem sz_removeFromRow {e : Nat → Int32} {post : St2 → Prop} {k : Nat → Nat → Nat → Nat → Nat → Nat → Nat → Nat → Nat → Nat → Nat → Nat → Nat → Nat → Nat → Nat → Nat → Bool} {A M F S N P C G W B6 B7 B8 B9 B10 B11 B12 B13 : Nat} {X_p0 : Nat} {p0 : Int32} {op pi cl gr wr : Int32} {a1 a2 a3 a4 a5 a6 a7 a8 a9 a10 a11 a12 a13 : Nat → Int32} (hb : bz_removeFromRow k A M F S N P C G W B6 B7 B8 B9 B10 B11 B12 B13 X_p0 = true) (hk : ∀ ⦃A M F S N P C G W B6 B7 B8 B9 B10 B11 B12 B13 : Nat⦄ ⦃op pi cl gr wr : Int32⦄ ⦃c1 c2 c3 c4 c5 c6 c7 c8 c9 c10 c11 c12 c13 : Nat → Int32⦄, k A M F S N P C G W B6 B7 B8 B9 B10 B11 B12 B13 = true → ab_rg e A M F S N op c1 c2 c3 c4 c5 → ab_rv e P pi → ab_rv e C cl → ab_rv e G gr → ab_rv e W wr → ab_ra e 12 B6 c6 → ab_ra e 12 B7 c7 → ab_ra e 12 B8 c8 → ab_ra e 12 B9 c9 → ab_ra e 12 B10 c10 → ab_ra e 12 B11 c11 → ab_ra e 12 B12 c12 → ab_ra e 12 B13 c13 → post (op, pi, cl, gr, wr, c1, c2, c3, c4, c5, c6, c7, c8, c9, c10, c11, c12, c13)) (hg : ab_rg e A M F S N op a1 a2 a3 a4 a5) (hP : ab_rv e P pi) (hC : ab_rv e C cl) (hG : ab_rv e G gr) (hW : ab_rv e W wr) (q6 : ab_ra e 12 B6 a6) (q7 : ab_ra e 12 B7 a7) (q8 : ab_ra e 12 B8 a8) (q9 : ab_ra e 12 B9 a9) (q10 : ab_ra e 12 B10 a10) (q11 : ab_ra e 12 B11 a11) (q12 : ab_ra e 12 B12 a12) (q13 : ab_ra e 12 B13 a13) (h_p0 : ab_rv e X_p0 p0) :
    wpX_removeFromRow post (op, pi, cl, gr, wr, a1, a2, a3, a4, a5, a6, a7, a8, a9, a10, a11, a12, a13) p0 := by
  obtain ⟨h1, hb⟩ := ab_itT hb
  obtain ⟨h2, hb⟩ := ab_itF hb
  obtain ⟨h3, hb⟩ := ab_itF hb
  obtain ⟨h6, hb⟩ := ab_itT hb
  obtain ⟨h7, hb⟩ := ab_itF hb
  have h1 := ab_bt h1
  have h2 : X_p0 < 16 + 12 := ab_bf h2
  have h6 := ab_bt h6
  have h7 : ab_get A 2 < 29 := ab_bf h7
  have hb := ab_strS hb
  have hb := ab_strS hb
  have h3 : M.testBit (X_p0 - 16) = true := by
    cases hz : M.testBit (X_p0 - 16)
    · have := ab_tb.mpr hz
      rw [show Nat.sub X_p0 16 = X_p0 - 16 from rfl, this] at h3
      exact absurd h3 (by decide)
    · rfl
  obtain ⟨g1, g2, og, g3, g4⟩ := hg
  have e2 := ab_nn (g1 2 (by omega) (by omega)) (by omega) (by omega)
  refine hq_remove (n := X_p0 - 16) (m := ab_get A 2 - 17) (ab_nn h_p0 (by omega) h1) (by omega) g3 g2 h3 (by omega) (by rw [e2]; congr 1; omega) (fun b1 b2 b3 b4 b5 ht f1 f2 f3 => ?_)
  refine hk hb ⟨?_, f3, og, ht, g4⟩ hP hC hG hW q6 q7 q8 q9 q10 q11 q12 q13
  intro j hj hj2
  rw [ab_getset (ab_cutL _)]
  by_cases hj3 : j = 2
  · rw [if_pos hj3, hj3, f2]
    refine ab_cutS ?_
    have : ab_rv e ((ab_get A 2 - 17) + 16) (nI (ab_get A 2 - 17)) := ab_ofn (by omega)
    rw [show ab_get A 2 - 17 + 16 = Nat.pred (ab_get A 2) by rw [Nat.pred_eq_sub_one]; omega] at this
    exact this
  · rw [if_neg hj3, f1 j (by omega) hj3]
    exact g1 j hj hj2
theorem hq_3 (k : Nat) (h : 1 ≤ k) : (4 : Int32) + nI k - 1 = nI (4 + (k - 1)) := by
  rw [hq_4, show 4 + (k - 1) = 4 + k - 1 by omega]
  exact pk_sub (b := 1) (by omega)
theorem hq_checkRow {post : St2 → Prop} {op pi cl gr wr : Int32} {a1 a2 a3 a4 a5 a6 a7 a8 a9 a10 a11 a12 a13 : Nat → Int32} {m : Nat} {ρ : Nat → Nat} (h : hq_row m ρ a1) (H : post (op, pi, cl, gr, wr, a1, a2, a3, a4, a5, a6, a7, a8, a9, a10, a11, a12, a13)) : wpX_checkRow post (op, pi, cl, gr, wr, a1, a2, a3, a4, a5, a6, a7, a8, a9, a10, a11, a12, a13) := by
  obtain ⟨h1, h2, h3, h4⟩ := h
  have main : ∀ d k, m ≤ k + d → 1 ≤ k → k ≤ 13 → wX_checkRow_2 post (d + 1) (nI k) op pi cl gr wr a1 a2 a3 a4 a5 a6 a7 a8 a9 a10 a11 a12 a13 := by
    intro d
    induction d with
    | zero =>
      intro k hk hk1 hk2
      exact pk_le m k (fun _ => H) (fun z => absurd z (by omega)) h2
    | succ d ih =>
      intro k hk hk1 hk2
      refine pk_le m k (fun _ => H) (fun z => ?_) h2
      obtain ⟨f1, f2⟩ := h3 k z
      obtain ⟨f3, f4⟩ := h3 (k - 1) (by omega)
      have f5 := h4 (k - 1) k (by omega) z
      have k1 : hq_key a1 (ρ k) = (a1 (18 + 7 * ρ k)).toInt * 12 + ρ k := rfl
      have k2 : hq_key a1 (ρ (k - 1)) = (a1 (18 + 7 * ρ (k - 1))).toInt * 12 + ρ (k - 1) := rfl
      rw [hq_3 k hk1, hq_4]
      refine ⟨vp_in_nI (by omega) (by omega), nm_r (e' := nI (ρ k)) (by rw [nI_clamp (by omega), f2]) ⟨vp_in_nI (by omega) (by omega), nm_r (e' := nI (ρ (k - 1))) (by rw [nI_clamp (by omega), f4]) ?_⟩⟩
      show vp_in ((16 : Int32) + 7 * nI (ρ k) + 2) 340 ∧ _
      rw [hq_na2]
      refine ⟨vp_in_nI (by omega) (by omega), nm_r (e' := a1 (18 + 7 * ρ k)) (by rw [nI_clamp (by omega)]) ?_⟩
      show vp_in ((16 : Int32) + 7 * nI (ρ (k - 1)) + 2) 340 ∧ _
      rw [hq_na2]
      refine ⟨vp_in_nI (by omega) (by omega), nm_r (e' := a1 (18 + 7 * ρ (k - 1))) (by rw [nI_clamp (by omega)]) ?_⟩
      have go : wX_checkRow_78 post (wX_checkRow_2 post (d + 1)) (nI k) op pi cl gr wr a1 a2 a3 a4 a5 a6 a7 a8 a9 a10 a11 a12 a13 :=
        br_f (by decide) (nm_r (Int32.add_zero wr) (nm_r (nI_1 k) (ih (k + 1) (by omega) (by omega) (by omega))))
      refine br_c (fun _ => go) (fun z1 => br_c (fun z2 => br_c (fun z3 => absurd f5 ?_) (fun _ => go)) (fun z2 => absurd f5 ?_))
      · have z3 := (nI_leI (by omega) (by omega)).mp z3
        rw [k1, k2, z2]
        omega
      · have z1 : ¬ (a1 (18 + 7 * ρ (k - 1))).toInt < (a1 (18 + 7 * ρ k)).toInt := fun w => z1 (Int32.lt_iff_toInt_lt.mpr w)
        have z2 : ¬ (a1 (18 + 7 * ρ (k - 1))).toInt = (a1 (18 + 7 * ρ k)).toInt := fun w => z2 (Int32.toInt_inj.mp w)
        rw [k1, k2]
        omega
  exact ⟨m + 1, main m 1 (by omega) (by omega) (by omega)⟩
noncomputable def bz_checkRow (k : Nat → Nat → Nat → Nat → Nat → Nat → Nat → Nat → Nat → Nat → Nat → Nat → Nat → Nat → Nat → Nat → Nat → Bool) (A M F S N P C G W B6 B7 B8 B9 B10 B11 B12 B13 : Nat) : Bool := k A M F S N P C G W B6 B7 B8 B9 B10 B11 B12 B13
theorem sz_checkRow {e : Nat → Int32} {post : St2 → Prop} {k : Nat → Nat → Nat → Nat → Nat → Nat → Nat → Nat → Nat → Nat → Nat → Nat → Nat → Nat → Nat → Nat → Nat → Bool} {A M F S N P C G W B6 B7 B8 B9 B10 B11 B12 B13 : Nat} {op pi cl gr wr : Int32} {a1 a2 a3 a4 a5 a6 a7 a8 a9 a10 a11 a12 a13 : Nat → Int32} (hb : bz_checkRow k A M F S N P C G W B6 B7 B8 B9 B10 B11 B12 B13 = true) (hk : ∀ ⦃A M F S N P C G W B6 B7 B8 B9 B10 B11 B12 B13 : Nat⦄ ⦃op pi cl gr wr : Int32⦄ ⦃c1 c2 c3 c4 c5 c6 c7 c8 c9 c10 c11 c12 c13 : Nat → Int32⦄, k A M F S N P C G W B6 B7 B8 B9 B10 B11 B12 B13 = true → ab_rg e A M F S N op c1 c2 c3 c4 c5 → ab_rv e P pi → ab_rv e C cl → ab_rv e G gr → ab_rv e W wr → ab_ra e 12 B6 c6 → ab_ra e 12 B7 c7 → ab_ra e 12 B8 c8 → ab_ra e 12 B9 c9 → ab_ra e 12 B10 c10 → ab_ra e 12 B11 c11 → ab_ra e 12 B12 c12 → ab_ra e 12 B13 c13 → post (op, pi, cl, gr, wr, c1, c2, c3, c4, c5, c6, c7, c8, c9, c10, c11, c12, c13)) (hg : ab_rg e A M F S N op a1 a2 a3 a4 a5) (hP : ab_rv e P pi) (hC : ab_rv e C cl) (hG : ab_rv e G gr) (hW : ab_rv e W wr) (q6 : ab_ra e 12 B6 a6) (q7 : ab_ra e 12 B7 a7) (q8 : ab_ra e 12 B8 a8) (q9 : ab_ra e 12 B9 a9) (q10 : ab_ra e 12 B10 a10) (q11 : ab_ra e 12 B11 a11) (q12 : ab_ra e 12 B12 a12) (q13 : ab_ra e 12 B13 a13) : wpX_checkRow post (op, pi, cl, gr, wr, a1, a2, a3, a4, a5, a6, a7, a8, a9, a10, a11, a12, a13) := by
  obtain ⟨m, ρ, hr, _, _⟩ := hg.2.1
  exact hq_checkRow hr (hk hb hg hP hC hG hW q6 q7 q8 q9 q10 q11 q12 q13)
noncomputable def bz_begin (k : Nat → Nat → Nat → Nat → Nat → Nat → Nat → Nat → Nat → Nat → Nat → Nat → Nat → Nat → Nat → Nat → Nat → Nat → Bool) (A M F S N P C G W B6 B7 B8 B9 B10 B11 B12 B13 : Nat) : Bool := ab_ite (Nat.beq F 0) (k 17 A M 1 A M P C G W B6 B7 B8 B9 B10 B11 B12 B13) false
theorem sz_begin {e : Nat → Int32} {post : Int32 → St2 → Prop} {k : Nat → Nat → Nat → Nat → Nat → Nat → Nat → Nat → Nat → Nat → Nat → Nat → Nat → Nat → Nat → Nat → Nat → Nat → Bool} {A M F S N P C G W B6 B7 B8 B9 B10 B11 B12 B13 : Nat} {op pi cl gr wr : Int32} {a1 a2 a3 a4 a5 a6 a7 a8 a9 a10 a11 a12 a13 : Nat → Int32} (hb : bz_begin k A M F S N P C G W B6 B7 B8 B9 B10 B11 B12 B13 = true) (hk : ∀ ⦃R A M F S N P C G W B6 B7 B8 B9 B10 B11 B12 B13 : Nat⦄ ⦃r op pi cl gr wr : Int32⦄ ⦃c1 c2 c3 c4 c5 c6 c7 c8 c9 c10 c11 c12 c13 : Nat → Int32⦄, k R A M F S N P C G W B6 B7 B8 B9 B10 B11 B12 B13 = true → ab_rv e R r → ab_rg e A M F S N op c1 c2 c3 c4 c5 → ab_rv e P pi → ab_rv e C cl → ab_rv e G gr → ab_rv e W wr → ab_ra e 12 B6 c6 → ab_ra e 12 B7 c7 → ab_ra e 12 B8 c8 → ab_ra e 12 B9 c9 → ab_ra e 12 B10 c10 → ab_ra e 12 B11 c11 → ab_ra e 12 B12 c12 → ab_ra e 12 B13 c13 → post r (op, pi, cl, gr, wr, c1, c2, c3, c4, c5, c6, c7, c8, c9, c10, c11, c12, c13)) (hg : ab_rg e A M F S N op a1 a2 a3 a4 a5) (hP : ab_rv e P pi) (hC : ab_rv e C cl) (hG : ab_rv e G gr) (hW : ab_rv e W wr) (q6 : ab_ra e 12 B6 a6) (q7 : ab_ra e 12 B7 a7) (q8 : ab_ra e 12 B8 a8) (q9 : ab_ra e 12 B9 a9) (q10 : ab_ra e 12 B10 a10) (q11 : ab_ra e 12 B11 a11) (q12 : ab_ra e 12 B12 a12) (q13 : ab_ra e 12 B13 a13) : wpX_begin post (op, pi, cl, gr, wr, a1, a2, a3, a4, a5, a6, a7, a8, a9, a10, a11, a12, a13) := by
  obtain ⟨h1, hb⟩ := ab_itT hb
  have h1 := ab_qt h1
  obtain ⟨g1, g2, og, g3, g4⟩ := hg
  obtain ⟨ho, i4, i5⟩ := g3.1 h1
  subst ho
  refine br_t (by decide) (nm_r (e' := 1) (by rfl) (hk hb (ab_kn (by decide) (by decide)) ⟨g1, g2, a1, ⟨fun z => absurd z (by decide), fun _ => ⟨rfl, 0, fun _ => 0, ?_⟩⟩, fun _ => ⟨g1, g2⟩⟩ hP hC hG hW q6 q7 q8 q9 q10 q11 q12 q13))
  have hc : ∀ n, n ≤ 1360 → hq_cnt a4 n = 0 := by
    intro n
    induction n with
    | zero => intro _; rfl
    | succ n ih =>
      intro hn
      show hq_cnt a4 n + (if a4 n = 0 then 0 else 1) = 0
      rw [ih (by omega), i4 n (by omega), if_pos rfl]
  exact ⟨i5 0 (by omega), fun k hk => absurd hk (by omega), fun i hi hz => absurd (i4 i (by omega)) hz, fun i _ _ => rfl, fun i _ hi => i4 i hi, fun l _ hl => i5 l hl, (hc 340 (by omega)).symm⟩
noncomputable def bz_undo (k : Nat → Nat → Nat → Nat → Nat → Nat → Nat → Nat → Nat → Nat → Nat → Nat → Nat → Nat → Nat → Nat → Nat → Nat → Bool) (A M F S N P C G W B6 B7 B8 B9 B10 B11 B12 B13 : Nat) : Bool := ab_ite (Nat.beq F 0) (k 14 A M F S N P C G W B6 B7 B8 B9 B10 B11 B12 B13) (k 16 S N 0 0 0 P C G W B6 B7 B8 B9 B10 B11 B12 B13)
theorem sz_undo {e : Nat → Int32} {post : Int32 → St2 → Prop} {k : Nat → Nat → Nat → Nat → Nat → Nat → Nat → Nat → Nat → Nat → Nat → Nat → Nat → Nat → Nat → Nat → Nat → Nat → Bool} {A M F S N P C G W B6 B7 B8 B9 B10 B11 B12 B13 : Nat} {op pi cl gr wr : Int32} {a1 a2 a3 a4 a5 a6 a7 a8 a9 a10 a11 a12 a13 : Nat → Int32} (hb : bz_undo k A M F S N P C G W B6 B7 B8 B9 B10 B11 B12 B13 = true) (hk : ∀ ⦃R A M F S N P C G W B6 B7 B8 B9 B10 B11 B12 B13 : Nat⦄ ⦃r op pi cl gr wr : Int32⦄ ⦃c1 c2 c3 c4 c5 c6 c7 c8 c9 c10 c11 c12 c13 : Nat → Int32⦄, k R A M F S N P C G W B6 B7 B8 B9 B10 B11 B12 B13 = true → ab_rv e R r → ab_rg e A M F S N op c1 c2 c3 c4 c5 → ab_rv e P pi → ab_rv e C cl → ab_rv e G gr → ab_rv e W wr → ab_ra e 12 B6 c6 → ab_ra e 12 B7 c7 → ab_ra e 12 B8 c8 → ab_ra e 12 B9 c9 → ab_ra e 12 B10 c10 → ab_ra e 12 B11 c11 → ab_ra e 12 B12 c12 → ab_ra e 12 B13 c13 → post r (op, pi, cl, gr, wr, c1, c2, c3, c4, c5, c6, c7, c8, c9, c10, c11, c12, c13)) (hg : ab_rg e A M F S N op a1 a2 a3 a4 a5) (hP : ab_rv e P pi) (hC : ab_rv e C cl) (hG : ab_rv e G gr) (hW : ab_rv e W wr) (q6 : ab_ra e 12 B6 a6) (q7 : ab_ra e 12 B7 a7) (q8 : ab_ra e 12 B8 a8) (q9 : ab_ra e 12 B9 a9) (q10 : ab_ra e 12 B10 a10) (q11 : ab_ra e 12 B11 a11) (q12 : ab_ra e 12 B12 a12) (q13 : ab_ra e 12 B13 a13) : wpX_undo post (op, pi, cl, gr, wr, a1, a2, a3, a4, a5, a6, a7, a8, a9, a10, a11, a12, a13) := by
  cases h1 : Nat.beq F 0
  · unfold bz_undo at hb
    rw [h1] at hb
    have h1 := ab_qf h1
    obtain ⟨g1, g2, og, g3, g4⟩ := hg
    obtain ⟨g5, g6⟩ := g4 h1
    refine hq_undo h1 g3 (fun b1 b2 b3 b4 b5 hb1 ht => ?_)
    refine hk hb (ab_kn (by decide) (by decide)) ⟨?_, hq_rokC g6 (fun j hj _ => hb1 j hj), b1, ht, fun z => absurd rfl z⟩ hP hC hG hW q6 q7 q8 q9 q10 q11 q12 q13
    intro j hj hj2
    rw [hb1 j hj]
    exact g5 j hj hj2
  · unfold bz_undo at hb
    rw [h1] at hb
    have h1 := ab_qt h1
    obtain ⟨g1, g2, og, g3, g4⟩ := hg
    exact br_t (g3.1 h1).1 (hk hb (ab_kn (by decide) (by decide)) ⟨g1, g2, og, g3, g4⟩ hP hC hG hW q6 q7 q8 q9 q10 q11 q12 q13)
noncomputable def bz_end (k : Nat → Nat → Nat → Nat → Nat → Nat → Nat → Nat → Nat → Nat → Nat → Nat → Nat → Nat → Nat → Nat → Nat → Nat → Bool) (A M F S N P C G W B6 B7 B8 B9 B10 B11 B12 B13 : Nat) : Bool := ab_ite (Nat.beq F 0) (k 14 A M F S N P C G W B6 B7 B8 B9 B10 B11 B12 B13) false
theorem sz_end {e : Nat → Int32} {post : Int32 → St2 → Prop} {k : Nat → Nat → Nat → Nat → Nat → Nat → Nat → Nat → Nat → Nat → Nat → Nat → Nat → Nat → Nat → Nat → Nat → Nat → Bool} {A M F S N P C G W B6 B7 B8 B9 B10 B11 B12 B13 : Nat} {op pi cl gr wr : Int32} {a1 a2 a3 a4 a5 a6 a7 a8 a9 a10 a11 a12 a13 : Nat → Int32} (hb : bz_end k A M F S N P C G W B6 B7 B8 B9 B10 B11 B12 B13 = true) (hk : ∀ ⦃R A M F S N P C G W B6 B7 B8 B9 B10 B11 B12 B13 : Nat⦄ ⦃r op pi cl gr wr : Int32⦄ ⦃c1 c2 c3 c4 c5 c6 c7 c8 c9 c10 c11 c12 c13 : Nat → Int32⦄, k R A M F S N P C G W B6 B7 B8 B9 B10 B11 B12 B13 = true → ab_rv e R r → ab_rg e A M F S N op c1 c2 c3 c4 c5 → ab_rv e P pi → ab_rv e C cl → ab_rv e G gr → ab_rv e W wr → ab_ra e 12 B6 c6 → ab_ra e 12 B7 c7 → ab_ra e 12 B8 c8 → ab_ra e 12 B9 c9 → ab_ra e 12 B10 c10 → ab_ra e 12 B11 c11 → ab_ra e 12 B12 c12 → ab_ra e 12 B13 c13 → post r (op, pi, cl, gr, wr, c1, c2, c3, c4, c5, c6, c7, c8, c9, c10, c11, c12, c13)) (hg : ab_rg e A M F S N op a1 a2 a3 a4 a5) (hP : ab_rv e P pi) (hC : ab_rv e C cl) (hG : ab_rv e G gr) (hW : ab_rv e W wr) (q6 : ab_ra e 12 B6 a6) (q7 : ab_ra e 12 B7 a7) (q8 : ab_ra e 12 B8 a8) (q9 : ab_ra e 12 B9 a9) (q10 : ab_ra e 12 B10 a10) (q11 : ab_ra e 12 B11 a11) (q12 : ab_ra e 12 B12 a12) (q13 : ab_ra e 12 B13 a13) : wpX_end post (op, pi, cl, gr, wr, a1, a2, a3, a4, a5, a6, a7, a8, a9, a10, a11, a12, a13) := by
  obtain ⟨h1, hb⟩ := ab_itT hb
  have h1 := ab_qt h1
  obtain ⟨g1, g2, og, g3, g4⟩ := hg
  exact br_t (g3.1 h1).1 (hk hb (ab_kn (by decide) (by decide)) ⟨g1, g2, og, g3, g4⟩ hP hC hG hW q6 q7 q8 q9 q10 q11 q12 q13)
noncomputable def bz_crash (k : Nat → Nat → Nat → Nat → Nat → Nat → Nat → Nat → Nat → Nat → Nat → Nat → Nat → Nat → Nat → Nat → Nat → Nat → Bool) (A M F S N P C G W B6 B7 B8 B9 B10 B11 B12 B13 : Nat) : Bool := ab_ite (Nat.beq F 0) (k 16 A M F S N P C G W B6 B7 B8 B9 B10 B11 B12 B13) false
theorem sz_crash {e : Nat → Int32} {post : Int32 → St2 → Prop} {k : Nat → Nat → Nat → Nat → Nat → Nat → Nat → Nat → Nat → Nat → Nat → Nat → Nat → Nat → Nat → Nat → Nat → Nat → Bool} {A M F S N P C G W B6 B7 B8 B9 B10 B11 B12 B13 : Nat} {op pi cl gr wr : Int32} {a1 a2 a3 a4 a5 a6 a7 a8 a9 a10 a11 a12 a13 : Nat → Int32} (hb : bz_crash k A M F S N P C G W B6 B7 B8 B9 B10 B11 B12 B13 = true) (hk : ∀ ⦃R A M F S N P C G W B6 B7 B8 B9 B10 B11 B12 B13 : Nat⦄ ⦃r op pi cl gr wr : Int32⦄ ⦃c1 c2 c3 c4 c5 c6 c7 c8 c9 c10 c11 c12 c13 : Nat → Int32⦄, k R A M F S N P C G W B6 B7 B8 B9 B10 B11 B12 B13 = true → ab_rv e R r → ab_rg e A M F S N op c1 c2 c3 c4 c5 → ab_rv e P pi → ab_rv e C cl → ab_rv e G gr → ab_rv e W wr → ab_ra e 12 B6 c6 → ab_ra e 12 B7 c7 → ab_ra e 12 B8 c8 → ab_ra e 12 B9 c9 → ab_ra e 12 B10 c10 → ab_ra e 12 B11 c11 → ab_ra e 12 B12 c12 → ab_ra e 12 B13 c13 → post r (op, pi, cl, gr, wr, c1, c2, c3, c4, c5, c6, c7, c8, c9, c10, c11, c12, c13)) (hg : ab_rg e A M F S N op a1 a2 a3 a4 a5) (hP : ab_rv e P pi) (hC : ab_rv e C cl) (hG : ab_rv e G gr) (hW : ab_rv e W wr) (q6 : ab_ra e 12 B6 a6) (q7 : ab_ra e 12 B7 a7) (q8 : ab_ra e 12 B8 a8) (q9 : ab_ra e 12 B9 a9) (q10 : ab_ra e 12 B10 a10) (q11 : ab_ra e 12 B11 a11) (q12 : ab_ra e 12 B12 a12) (q13 : ab_ra e 12 B13 a13) : wpX_crash post (op, pi, cl, gr, wr, a1, a2, a3, a4, a5, a6, a7, a8, a9, a10, a11, a12, a13) := by
  obtain ⟨h1, hb⟩ := ab_itT hb
  have h1 := ab_qt h1
  obtain ⟨g1, g2, og, g3, g4⟩ := hg
  have ho := (g3.1 h1).1
  exact ⟨1, br_t (by rw [ho]; decide) (hk hb (by rw [ho]; exact ab_kn (by decide) (by decide)) ⟨g1, g2, og, g3, g4⟩ hP hC hG hW q6 q7 q8 q9 q10 q11 q12 q13)⟩
theorem hq_findB {post : Int32 → Prop} {op pi cl gr wr : Int32} {a1 a2 a3 a4 a5 a6 a7 a8 a9 a10 a11 a12 a13 : Nat → Int32} {p0 p1 : Int32} (h : p0 < 0 ∨ ¬ p0 ≤ 7) (H : post (-1)) : wpX_find post (op, pi, cl, gr, wr, a1, a2, a3, a4, a5, a6, a7, a8, a9, a10, a11, a12, a13) p0 p1 :=
  br_c (fun _ => H) (fun z => br_c (fun z2 => absurd h (fun w => w.elim z (fun w => w z2))) (fun _ => H))
theorem hq_find0 {post : Int32 → Prop} {op pi cl gr wr : Int32} {a1 a2 a3 a4 a5 a6 a7 a8 a9 a10 a11 a12 a13 : Nat → Int32} {p0 p1 : Int32} (h1 : ¬ p0 < 0) (h2 : p0 ≤ 7) (hc : a1 2 = 0) (H : post (-2)) : wpX_find post (op, pi, cl, gr, wr, a1, a2, a3, a4, a5, a6, a7, a8, a9, a10, a11, a12, a13) p0 p1 := by
  refine br_f h1 (br_t h2 (nm_r hc (nm_r hc ⟨1, br_t (by decide) ⟨1, br_t (by decide) H⟩⟩)))
theorem hq_find1 {post : Int32 → Prop} {op pi cl gr wr : Int32} {a1 a2 a3 a4 a5 a6 a7 a8 a9 a10 a11 a12 a13 : Nat → Int32} {p0 p1 : Int32} (h1 : ¬ p0 < 0) (h2 : p0 ≤ 7) (hc : a1 2 = nI 1) (hr : hq_rok 1 a1) (hl : a1 17 = p0) (hv : a1 18 = p1) (H : post 0) : wpX_find post (op, pi, cl, gr, wr, a1, a2, a3, a4, a5, a6, a7, a8, a9, a10, a11, a12, a13) p0 p1 := by
  obtain ⟨m, ρ, hrow, i1, i2⟩ := hr
  have hrow' := hrow
  obtain ⟨g1, g2, g3, g4⟩ := hrow
  have hm : m = 1 := (nI_eq (by omega) (by omega)).mp (g2.symm.trans hc)
  subst hm
  have r0 : ρ 0 = 0 := by
    have := i1 0 (by omega)
    by_cases hz : ρ 0 = 0
    · exact hz
    · have h3 : Nat.testBit 1 (ρ 0) = false := Nat.testBit_two_pow_of_ne (n := 0) (fun w => hz w.symm)
      rw [h3] at this
      exact absurd this (by decide)
  obtain ⟨_, f2⟩ := g3 0 (by omega)
  rw [r0] at f2
  refine br_f h1 (br_t h2 (nm_r hc ?_))
  refine hq_place hrow' p1 0 (by omega) (fun p hp L R => ?_)
  have p0' : p = 0 := by
    by_cases hz : p = 0
    · exact hz
    · have t := L 0 (by omega)
      rw [r0] at t
      have t2 : hq_key a1 0 = (a1 18).toInt * 12 + ((0 : Nat) : Int) := rfl
      rw [t2, hv] at t
      omega
  subst p0'
  have e4 : (4 : Int32) + nI 0 = nI 4 := rfl
  refine ⟨1, pk_le 1 0 (fun z => absurd z (by omega)) (fun _ => ?_)⟩
  rw [e4, nI_clamp (show 4 < 2 ^ 31 by omega), show a1 4 = nI 0 from f2]
  refine ⟨vp_in_nI (by omega) (by omega), ?_⟩
  show vp_in ((16 : Int32) + 7 * nI 0 + 2) 340 ∧ _
  rw [hq_na2, nI_clamp (show 18 + 7 * 0 < 2 ^ 31 by omega)]
  refine ⟨vp_in_nI (by omega) (by omega), br_t hv ?_⟩
  have e1 : (16 : Int32) + 7 * nI 0 + 1 = nI 17 := rfl
  rw [e1, nI_clamp (show 17 < 2 ^ 31 by omega), hl]
  exact ⟨vp_in_nI (by omega) (by omega), br_t (Int32.and_self) ⟨vp_in_nI (by omega) (by omega), H⟩⟩
noncomputable def bz_find (k : Nat → Bool) (A M F S N P C G W B6 B7 B8 B9 B10 B11 B12 B13 : Nat) (X_p0 X_p1 : Nat) : Bool :=
  ab_ite (Nat.ble (ab_hi X_p0) 2147483647) (k 15) (ab_ite (Nat.ble 2147483656 (ab_lo X_p0)) (k 15)
    (ab_ite (Nat.ble 2147483648 (ab_lo X_p0)) (ab_ite (Nat.ble (ab_hi X_p0) 2147483655)
      (ab_ite (Nat.beq (ab_get A 2) 16) (k 14)
        (ab_ite (Nat.beq (ab_get A 2) 17) (ab_ite (Nat.beq M 1) (ab_ite (Nat.ble 2147483648 X_p0) false (ab_ite (Nat.ble 2147483648 X_p1) false (ab_ite (Nat.beq (ab_get A 17) X_p0) (ab_ite (Nat.beq (ab_get A 18) X_p1) (k 16) false) false))) false) false)) false) false))
theorem sz_find {e : Nat → Int32} {post : Int32 → Prop} {k : Nat → Bool} {A M F S N P C G W B6 B7 B8 B9 B10 B11 B12 B13 : Nat} {X_p0 X_p1 : Nat} {p0 p1 : Int32} {op pi cl gr wr : Int32} {a1 a2 a3 a4 a5 a6 a7 a8 a9 a10 a11 a12 a13 : Nat → Int32} (hb : bz_find k A M F S N P C G W B6 B7 B8 B9 B10 B11 B12 B13 X_p0 X_p1 = true) (hk : ∀ ⦃R : Nat⦄ ⦃r : Int32⦄, k R = true → ab_rv e R r → post r) (hg : ab_rg e A M F S N op a1 a2 a3 a4 a5) (hP : ab_rv e P pi) (hC : ab_rv e C cl) (hG : ab_rv e G gr) (hW : ab_rv e W wr) (q6 : ab_ra e 12 B6 a6) (q7 : ab_ra e 12 B7 a7) (q8 : ab_ra e 12 B8 a8) (q9 : ab_ra e 12 B9 a9) (q10 : ab_ra e 12 B10 a10) (q11 : ab_ra e 12 B11 a11) (q12 : ab_ra e 12 B12 a12) (q13 : ab_ra e 12 B13 a13) (h_p0 : ab_rv e X_p0 p0) (h_p1 : ab_rv e X_p1 p1) :
    wpX_find post (op, pi, cl, gr, wr, a1, a2, a3, a4, a5, a6, a7, a8, a9, a10, a11, a12, a13) p0 p1 := by
  have l0 := ab_lohi h_p0
  have r7 : ∀ {x : Int32}, x ≤ 7 ↔ x.toInt ≤ 7 := fun {x} => Int32.le_iff_toInt_le
  have r0 : ∀ {x : Int32}, x < 0 ↔ x.toInt < 0 := fun {x} => Int32.lt_iff_toInt_lt
  unfold bz_find at hb
  cases h1 : Nat.ble (ab_hi X_p0) 2147483647
  · rw [h1] at hb
    cases h2 : Nat.ble 2147483656 (ab_lo X_p0)
    · rw [h2] at hb
      obtain ⟨h3, hb⟩ := ab_itT hb
      obtain ⟨h4, hb⟩ := ab_itT hb
      have h3 := ab_bt h3
      have h4 := ab_bt h4
      have c1 : ¬ p0 < 0 := fun z => by
        have := r0.mp z
        omega
      have c2 : p0 ≤ 7 := r7.mpr (by omega)
      obtain ⟨g1, g2, _⟩ := hg
      cases h5 : Nat.beq (ab_get A 2) 16
      · rw [h5] at hb
        obtain ⟨h6, hb⟩ := ab_itT hb
        obtain ⟨h7, hb⟩ := ab_itT hb
        obtain ⟨h8, hb⟩ := ab_itF hb
        obtain ⟨h9, hb⟩ := ab_itF hb
        obtain ⟨h10, hb⟩ := ab_itT hb
        obtain ⟨h11, hb⟩ := ab_itT hb
        have h6 := ab_qt h6
        have h7 := ab_qt h7
        have h8 := ab_bf h8
        have h9 := ab_bf h9
        have h10 := ab_qt h10
        have h11 := ab_qt h11
        rw [h7] at g2
        have v2 := g1 2 (by omega) (by omega)
        rw [h6] at v2
        have v17 := g1 17 (by omega) (by omega)
        rw [h10] at v17
        have v18 := g1 18 (by omega) (by omega)
        rw [h11] at v18
        exact hq_find1 c1 c2 (ab_nn v2 (by omega) (by omega)) g2 (ab_rvU v17 h_p0 h8) (ab_rvU v18 h_p1 h9) (hk hb (ab_kn (by decide) (by decide)))
      · rw [h5] at hb
        have h5 := ab_qt h5
        have v2 := g1 2 (by omega) (by omega)
        rw [h5] at v2
        exact hq_find0 c1 c2 (ab_nn v2 (by omega) (by omega)) (hk hb (ab_kn (by decide) (by decide)))
    · rw [h2] at hb
      have h2 := ab_bt h2
      exact hq_findB (Or.inr (fun z => by have := r7.mp z; omega)) (hk hb (ab_kn (by decide) (by decide)))
  · rw [h1] at hb
    have h1 := ab_bt h1
    exact hq_findB (Or.inl (r0.mpr (by omega))) (hk hb (ab_kn (by decide) (by decide)))
end
section
theorem ab_l0 {e : Nat → Int32} : ab_rv e 16 (0 : Int32) := ab_kn (by decide) (by decide)
theorem ab_l1 {e : Nat → Int32} : ab_rv e 17 (1 : Int32) := ab_kn (by decide) (by decide)
theorem ab_l2 {e : Nat → Int32} : ab_rv e 18 (2 : Int32) := ab_kn (by decide) (by decide)
theorem ab_l3 {e : Nat → Int32} : ab_rv e 19 (3 : Int32) := ab_kn (by decide) (by decide)
theorem ab_l4 {e : Nat → Int32} : ab_rv e 20 (4 : Int32) := ab_kn (by decide) (by decide)
theorem ab_l5 {e : Nat → Int32} : ab_rv e 21 (5 : Int32) := ab_kn (by decide) (by decide)
theorem ab_l6 {e : Nat → Int32} : ab_rv e 22 (6 : Int32) := ab_kn (by decide) (by decide)
theorem ab_l7 {e : Nat → Int32} : ab_rv e 23 (7 : Int32) := ab_kn (by decide) (by decide)
theorem ab_l8 {e : Nat → Int32} : ab_rv e 24 (8 : Int32) := ab_kn (by decide) (by decide)
theorem ab_l9 {e : Nat → Int32} : ab_rv e 25 (9 : Int32) := ab_kn (by decide) (by decide)
theorem ab_l10 {e : Nat → Int32} : ab_rv e 26 (10 : Int32) := ab_kn (by decide) (by decide)
theorem ab_l11 {e : Nat → Int32} : ab_rv e 27 (11 : Int32) := ab_kn (by decide) (by decide)
theorem ab_l12 {e : Nat → Int32} : ab_rv e 28 (12 : Int32) := ab_kn (by decide) (by decide)
theorem ab_l13 {e : Nat → Int32} : ab_rv e 29 (13 : Int32) := ab_kn (by decide) (by decide)
theorem ab_l14 {e : Nat → Int32} : ab_rv e 30 (14 : Int32) := ab_kn (by decide) (by decide)
theorem ab_l15 {e : Nat → Int32} : ab_rv e 31 (15 : Int32) := ab_kn (by decide) (by decide)
theorem ab_l16 {e : Nat → Int32} : ab_rv e 32 (16 : Int32) := ab_kn (by decide) (by decide)
theorem ab_l17 {e : Nat → Int32} : ab_rv e 33 (17 : Int32) := ab_kn (by decide) (by decide)
theorem ab_l18 {e : Nat → Int32} : ab_rv e 34 (18 : Int32) := ab_kn (by decide) (by decide)
theorem ab_l19 {e : Nat → Int32} : ab_rv e 35 (19 : Int32) := ab_kn (by decide) (by decide)
theorem ab_l20 {e : Nat → Int32} : ab_rv e 36 (20 : Int32) := ab_kn (by decide) (by decide)
theorem ab_l21 {e : Nat → Int32} : ab_rv e 37 (21 : Int32) := ab_kn (by decide) (by decide)
theorem ab_l22 {e : Nat → Int32} : ab_rv e 38 (22 : Int32) := ab_kn (by decide) (by decide)
theorem ab_l23 {e : Nat → Int32} : ab_rv e 39 (23 : Int32) := ab_kn (by decide) (by decide)
theorem ab_l24 {e : Nat → Int32} : ab_rv e 40 (24 : Int32) := ab_kn (by decide) (by decide)
theorem ab_l25 {e : Nat → Int32} : ab_rv e 41 (25 : Int32) := ab_kn (by decide) (by decide)
theorem ab_l26 {e : Nat → Int32} : ab_rv e 42 (26 : Int32) := ab_kn (by decide) (by decide)
theorem ab_l27 {e : Nat → Int32} : ab_rv e 43 (27 : Int32) := ab_kn (by decide) (by decide)
theorem ab_l28 {e : Nat → Int32} : ab_rv e 44 (28 : Int32) := ab_kn (by decide) (by decide)
theorem ab_l29 {e : Nat → Int32} : ab_rv e 45 (29 : Int32) := ab_kn (by decide) (by decide)
theorem ab_l30 {e : Nat → Int32} : ab_rv e 46 (30 : Int32) := ab_kn (by decide) (by decide)
theorem ab_l31 {e : Nat → Int32} : ab_rv e 47 (31 : Int32) := ab_kn (by decide) (by decide)
theorem ab_l99 {e : Nat → Int32} : ab_rv e 115 (99 : Int32) := ab_kn (by decide) (by decide)
theorem ab_l100 {e : Nat → Int32} : ab_rv e 116 (100 : Int32) := ab_kn (by decide) (by decide)
theorem ab_l144 {e : Nat → Int32} : ab_rv e 160 (144 : Int32) := ab_kn (by decide) (by decide)
theorem ab_l340 {e : Nat → Int32} : ab_rv e 356 (340 : Int32) := ab_kn (by decide) (by decide)
theorem ab_l576 {e : Nat → Int32} : ab_rv e 592 (576 : Int32) := ab_kn (by decide) (by decide)
theorem ab_m1 {e : Nat → Int32} : ab_rv e 15 (-1 : Int32) := ab_kn (by decide) (by decide)
theorem ab_m2 {e : Nat → Int32} : ab_rv e 14 (-2 : Int32) := ab_kn (by decide) (by decide)
theorem ab_m3 {e : Nat → Int32} : ab_rv e 13 (-3 : Int32) := ab_kn (by decide) (by decide)
theorem ab_m4 {e : Nat → Int32} : ab_rv e 12 (-4 : Int32) := ab_kn (by decide) (by decide)
noncomputable def bz_nodeAt (k : Nat → Bool) (X_p0 : Nat) : Bool :=
  (ab_str (ab_add 32 (ab_mul 23 X_p0)) (fun R => k R))
theorem sz_nodeAt {e : Nat → Int32} {post : Int32 → Prop} {k : Nat → Bool} {X_p0 : Nat} {p0 : Int32} (hb : bz_nodeAt k X_p0 = true) (hk : ∀ ⦃R : Nat⦄ ⦃r : Int32⦄, k R = true → ab_rv e R r → post r) (h_p0 : ab_rv e X_p0 p0) : wpX_nodeAt post () p0 := by
  exact hk (ab_strS hb) (ab_addS ab_l16 (ab_mulS ab_l7 h_p0))
noncomputable def bz_arrowCell (k : Nat → Bool) (X_p0 : Nat) : Bool :=
  (ab_str (ab_add 116 (ab_mul 26 X_p0)) (fun R => k R))
theorem sz_arrowCell {e : Nat → Int32} {post : Int32 → Prop} {k : Nat → Bool} {X_p0 : Nat} {p0 : Int32} (hb : bz_arrowCell k X_p0 = true) (hk : ∀ ⦃R : Nat⦄ ⦃r : Int32⦄, k R = true → ab_rv e R r → post r) (h_p0 : ab_rv e X_p0 p0) : wpX_arrowCell post () p0 := by
  exact hk (ab_strS hb) (ab_addS ab_l100 (ab_mulS ab_l10 h_p0))
noncomputable def bz_isNodeG (k : Nat → Bool) (X_a1 M_a1 F_a1 S_a1 N_a1 X_f0_piled X_f0_clock X_f0_groups X_f0_wrong X_a6 X_a7 X_a8 X_a9 X_a10 X_a11 X_a12 X_a13 X_p0 : Nat) : Bool :=
  (ab_lt X_p0 16 (k 16) (ab_le 28 X_p0 (k 16) (bz_nodeAt (fun X_r_3 => (ab_vin 340 X_r_3 (ab_eq (ab_rdc X_a1 X_r_3) 17 (k 17) (k 16)))) X_p0)))
theorem sz_isNodeG {e : Nat → Int32} {post : Int32 → Prop} {k : Nat → Bool} {X_a1 M_a1 F_a1 S_a1 N_a1 X_f0_piled X_f0_clock X_f0_groups X_f0_wrong X_a6 X_a7 X_a8 X_a9 X_a10 X_a11 X_a12 X_a13 X_p0 : Nat} {f0_op f0_piled f0_clock f0_groups f0_wrong p0 : Int32} {a1 a2 a3 a4 a5 a6 a7 a8 a9 a10 a11 a12 a13 : Nat → Int32} (hb : bz_isNodeG k X_a1 M_a1 F_a1 S_a1 N_a1 X_f0_piled X_f0_clock X_f0_groups X_f0_wrong X_a6 X_a7 X_a8 X_a9 X_a10 X_a11 X_a12 X_a13 X_p0 = true) (hk : ∀ ⦃R : Nat⦄ ⦃r : Int32⦄, k R = true → ab_rv e R r → post r) (g_a1 : ab_rg e X_a1 M_a1 F_a1 S_a1 N_a1 f0_op a1 a2 a3 a4 a5) (h_f0_piled : ab_rv e X_f0_piled f0_piled) (h_f0_clock : ab_rv e X_f0_clock f0_clock) (h_f0_groups : ab_rv e X_f0_groups f0_groups) (h_f0_wrong : ab_rv e X_f0_wrong f0_wrong) (h_a6 : ab_ra e 12 X_a6 a6) (h_a7 : ab_ra e 12 X_a7 a7) (h_a8 : ab_ra e 12 X_a8 a8) (h_a9 : ab_ra e 12 X_a9 a9) (h_a10 : ab_ra e 12 X_a10 a10) (h_a11 : ab_ra e 12 X_a11 a11) (h_a12 : ab_ra e 12 X_a12 a12) (h_a13 : ab_ra e 12 X_a13 a13) (h_p0 : ab_rv e X_p0 p0) : wpX_isNode post (f0_op, f0_piled, f0_clock, f0_groups, f0_wrong, a1, a2, a3, a4, a5, a6, a7, a8, a9, a10, a11, a12, a13) p0 := by
  refine ab_ltS hb h_p0 ab_l0 (fun hb => ?_) (fun hb => ?_)
  · exact hk hb ab_l0
  · refine ab_leS hb ab_l12 h_p0 (fun hb => ?_) (fun hb => ?_)
    · exact hk hb ab_l0
    · refine sz_nodeAt hb ?_ h_p0
      intro X_r_3 r_3 hb h_r_3
      refine ab_vinS hb (by decide) h_r_3 (fun hb => ?_)
      refine ab_eqS hb (ab_rdcS g_a1.1 h_r_3) ab_l1 (fun hb => ?_) (fun hb => ?_)
      · exact hk hb ab_l1
      · exact hk hb ab_l0
noncomputable def bz_isArrowG (k : Nat → Bool) (X_a1 M_a1 F_a1 S_a1 N_a1 X_f0_piled X_f0_clock X_f0_groups X_f0_wrong X_a6 X_a7 X_a8 X_a9 X_a10 X_a11 X_a12 X_a13 X_p0 : Nat) : Bool :=
  (ab_lt X_p0 16 (k 16) (ab_le 40 X_p0 (k 16) (bz_arrowCell (fun X_r_3 => (ab_vin 340 X_r_3 (ab_eq (ab_rdc X_a1 X_r_3) 17 (k 17) (k 16)))) X_p0)))
theorem sz_isArrowG {e : Nat → Int32} {post : Int32 → Prop} {k : Nat → Bool} {X_a1 M_a1 F_a1 S_a1 N_a1 X_f0_piled X_f0_clock X_f0_groups X_f0_wrong X_a6 X_a7 X_a8 X_a9 X_a10 X_a11 X_a12 X_a13 X_p0 : Nat} {f0_op f0_piled f0_clock f0_groups f0_wrong p0 : Int32} {a1 a2 a3 a4 a5 a6 a7 a8 a9 a10 a11 a12 a13 : Nat → Int32} (hb : bz_isArrowG k X_a1 M_a1 F_a1 S_a1 N_a1 X_f0_piled X_f0_clock X_f0_groups X_f0_wrong X_a6 X_a7 X_a8 X_a9 X_a10 X_a11 X_a12 X_a13 X_p0 = true) (hk : ∀ ⦃R : Nat⦄ ⦃r : Int32⦄, k R = true → ab_rv e R r → post r) (g_a1 : ab_rg e X_a1 M_a1 F_a1 S_a1 N_a1 f0_op a1 a2 a3 a4 a5) (h_f0_piled : ab_rv e X_f0_piled f0_piled) (h_f0_clock : ab_rv e X_f0_clock f0_clock) (h_f0_groups : ab_rv e X_f0_groups f0_groups) (h_f0_wrong : ab_rv e X_f0_wrong f0_wrong) (h_a6 : ab_ra e 12 X_a6 a6) (h_a7 : ab_ra e 12 X_a7 a7) (h_a8 : ab_ra e 12 X_a8 a8) (h_a9 : ab_ra e 12 X_a9 a9) (h_a10 : ab_ra e 12 X_a10 a10) (h_a11 : ab_ra e 12 X_a11 a11) (h_a12 : ab_ra e 12 X_a12 a12) (h_a13 : ab_ra e 12 X_a13 a13) (h_p0 : ab_rv e X_p0 p0) : wpX_isArrow post (f0_op, f0_piled, f0_clock, f0_groups, f0_wrong, a1, a2, a3, a4, a5, a6, a7, a8, a9, a10, a11, a12, a13) p0 := by
  refine ab_ltS hb h_p0 ab_l0 (fun hb => ?_) (fun hb => ?_)
  · exact hk hb ab_l0
  · refine ab_leS hb ab_l24 h_p0 (fun hb => ?_) (fun hb => ?_)
    · exact hk hb ab_l0
    · refine sz_arrowCell hb ?_ h_p0
      intro X_r_3 r_3 hb h_r_3
      refine ab_vinS hb (by decide) h_r_3 (fun hb => ?_)
      refine ab_eqS hb (ab_rdcS g_a1.1 h_r_3) ab_l1 (fun hb => ?_) (fun hb => ?_)
      · exact hk hb ab_l1
      · exact hk hb ab_l0
noncomputable def ab_kne (c : Nat) : Bool := ab_ite (Nat.ble 1073741824 c) false (ab_ite (Nat.beq c 17) false true)
noncomputable def ab_none (A b w n : Nat) : Bool := Nat.rec true (fun m r => ab_ite (ab_kne (ab_get A (Nat.add b (Nat.mul w m)))) r false) n
theorem ab_noneS {A b w n : Nat} (h : ab_none A b w n = true) : ∀ m, m < n → ab_kne (ab_get A (b + w * m)) = true := by
  induction n with
  | zero => intro m hm; exact absurd hm (by omega)
  | succ n ih =>
    obtain ⟨h1, h2⟩ := ab_itT (show ab_ite (ab_kne (ab_get A (b + w * n))) (ab_none A b w n) false = true from h)
    intro m hm
    by_cases hz : m = n
    · rw [hz]
      exact h1
    · exact ih h2 m (by omega)
theorem ab_kneS {e : Nat → Int32} {c : Nat} {v : Int32} (h : ab_kne c = true) (hv : ab_rv e c v) : ¬ v = 1 := by
  obtain ⟨h1, h⟩ := ab_itF h
  obtain ⟨h2, _⟩ := ab_itF h
  have h1 := ab_bf h1
  have h2 := ab_qf h2
  have := hv.1 h1
  intro z
  have t := pk_sub_toInt (a := c) (b := 16) (by omega) (by omega)
  rw [ab_h16, ← this, z] at t
  have t1 : (1 : Int32).toInt = 1 := by decide
  omega
theorem hq_na0 (r : Nat) : (100 : Int32) + 10 * nI r = nI (100 + 10 * r) := by
  rw [show (10 : Int32) = nI 10 from rfl, pk_mul, show (100 : Int32) = nI 100 from rfl, nI_add]
theorem hq_isNode0 {post : Int32 → Prop} {op pi cl gr wr : Int32} {a1 a2 a3 a4 a5 a6 a7 a8 a9 a10 a11 a12 a13 : Nat → Int32} {p0 : Int32} (h : ∀ m, m < 12 → ¬ a1 (16 + 7 * m) = 1) (H : post 0) : wpX_isNode post (op, pi, cl, gr, wr, a1, a2, a3, a4, a5, a6, a7, a8, a9, a10, a11, a12, a13) p0 := by
  refine br_c (fun _ => H) (fun z1 => br_c (fun _ => H) (fun z2 => ?_))
  obtain ⟨j, hj, e⟩ := nI_of z1
  subst e
  have hj2 : j < 12 := by
    rcases Nat.lt_or_ge j 12 with z | z
    · exact z
    · exact absurd (nI_le (a := 12) z hj) z2
  show vp_in ((16 : Int32) + 7 * nI j) 340 ∧ _
  rw [hq_na, nI_clamp (show 16 + 7 * j < 2 ^ 31 by omega)]
  exact ⟨vp_in_nI (by omega) (by omega), br_f (h j hj2) H⟩
theorem hq_isArrow0 {post : Int32 → Prop} {op pi cl gr wr : Int32} {a1 a2 a3 a4 a5 a6 a7 a8 a9 a10 a11 a12 a13 : Nat → Int32} {p0 : Int32} (h : ∀ m, m < 24 → ¬ a1 (100 + 10 * m) = 1) (H : post 0) : wpX_isArrow post (op, pi, cl, gr, wr, a1, a2, a3, a4, a5, a6, a7, a8, a9, a10, a11, a12, a13) p0 := by
  refine br_c (fun _ => H) (fun z1 => br_c (fun _ => H) (fun z2 => ?_))
  obtain ⟨j, hj, e⟩ := nI_of z1
  subst e
  have hj2 : j < 24 := by
    rcases Nat.lt_or_ge j 24 with z | z
    · exact z
    · exact absurd (nI_le (a := 24) z hj) z2
  show vp_in ((100 : Int32) + 10 * nI j) 340 ∧ _
  rw [hq_na0, nI_clamp (show 100 + 10 * j < 2 ^ 31 by omega)]
  exact ⟨vp_in_nI (by omega) (by omega), br_f (h j hj2) H⟩
noncomputable def bz_isNode (k : Nat → Bool) (A M F S N P C G W B6 B7 B8 B9 B10 B11 B12 B13 : Nat) (X_p0 : Nat) : Bool :=
  ab_ite (Nat.ble 1073741824 X_p0) (ab_ite (ab_none A 16 7 12) (k 16) (bz_isNodeG k A M F S N P C G W B6 B7 B8 B9 B10 B11 B12 B13 X_p0)) (bz_isNodeG k A M F S N P C G W B6 B7 B8 B9 B10 B11 B12 B13 X_p0)
theorem ab_wrap {c d t f : Bool} {Q : Prop} (h : ab_ite c (ab_ite d t f) f = true) (h1 : d = true → t = true → Q) (h2 : f = true → Q) : Q := by
  cases c
  · exact h2 h
  · cases d
    · exact h2 h
    · exact h1 rfl h
theorem sz_isNode {e : Nat → Int32} {post : Int32 → Prop} {k : Nat → Bool} {A M F S N P C G W B6 B7 B8 B9 B10 B11 B12 B13 : Nat} {X_p0 : Nat} {p0 : Int32} {op pi cl gr wr : Int32} {a1 a2 a3 a4 a5 a6 a7 a8 a9 a10 a11 a12 a13 : Nat → Int32} (hb : bz_isNode k A M F S N P C G W B6 B7 B8 B9 B10 B11 B12 B13 X_p0 = true) (hk : ∀ ⦃R : Nat⦄ ⦃r : Int32⦄, k R = true → ab_rv e R r → post r) (hg : ab_rg e A M F S N op a1 a2 a3 a4 a5) (hP : ab_rv e P pi) (hC : ab_rv e C cl) (hG : ab_rv e G gr) (hW : ab_rv e W wr) (q6 : ab_ra e 12 B6 a6) (q7 : ab_ra e 12 B7 a7) (q8 : ab_ra e 12 B8 a8) (q9 : ab_ra e 12 B9 a9) (q10 : ab_ra e 12 B10 a10) (q11 : ab_ra e 12 B11 a11) (q12 : ab_ra e 12 B12 a12) (q13 : ab_ra e 12 B13 a13) (h_p0 : ab_rv e X_p0 p0) :
    wpX_isNode post (op, pi, cl, gr, wr, a1, a2, a3, a4, a5, a6, a7, a8, a9, a10, a11, a12, a13) p0 :=
  ab_wrap hb (fun h1 hb => hq_isNode0 (fun m hm => ab_kneS (ab_noneS h1 m hm) (hg.1 (16 + 7 * m) (by omega) (by omega))) (hk hb ab_l0)) (fun hb => sz_isNodeG hb hk hg hP hC hG hW q6 q7 q8 q9 q10 q11 q12 q13 h_p0)
noncomputable def bz_isArrow (k : Nat → Bool) (A M F S N P C G W B6 B7 B8 B9 B10 B11 B12 B13 : Nat) (X_p0 : Nat) : Bool :=
  ab_ite (Nat.ble 1073741824 X_p0) (ab_ite (ab_none A 100 10 24) (k 16) (bz_isArrowG k A M F S N P C G W B6 B7 B8 B9 B10 B11 B12 B13 X_p0)) (bz_isArrowG k A M F S N P C G W B6 B7 B8 B9 B10 B11 B12 B13 X_p0)
theorem sz_isArrow {e : Nat → Int32} {post : Int32 → Prop} {k : Nat → Bool} {A M F S N P C G W B6 B7 B8 B9 B10 B11 B12 B13 : Nat} {X_p0 : Nat} {p0 : Int32} {op pi cl gr wr : Int32} {a1 a2 a3 a4 a5 a6 a7 a8 a9 a10 a11 a12 a13 : Nat → Int32} (hb : bz_isArrow k A M F S N P C G W B6 B7 B8 B9 B10 B11 B12 B13 X_p0 = true) (hk : ∀ ⦃R : Nat⦄ ⦃r : Int32⦄, k R = true → ab_rv e R r → post r) (hg : ab_rg e A M F S N op a1 a2 a3 a4 a5) (hP : ab_rv e P pi) (hC : ab_rv e C cl) (hG : ab_rv e G gr) (hW : ab_rv e W wr) (q6 : ab_ra e 12 B6 a6) (q7 : ab_ra e 12 B7 a7) (q8 : ab_ra e 12 B8 a8) (q9 : ab_ra e 12 B9 a9) (q10 : ab_ra e 12 B10 a10) (q11 : ab_ra e 12 B11 a11) (q12 : ab_ra e 12 B12 a12) (q13 : ab_ra e 12 B13 a13) (h_p0 : ab_rv e X_p0 p0) :
    wpX_isArrow post (op, pi, cl, gr, wr, a1, a2, a3, a4, a5, a6, a7, a8, a9, a10, a11, a12, a13) p0 :=
  ab_wrap hb (fun h1 hb => hq_isArrow0 (fun m hm => ab_kneS (ab_noneS h1 m hm) (hg.1 (100 + 10 * m) (by omega) (by omega))) (hk hb ab_l0)) (fun hb => sz_isArrowG hb hk hg hP hC hG hW q6 q7 q8 q9 q10 q11 q12 q13 h_p0)
noncomputable def bz_areEndsG (k : Nat → Bool) (X_a1 M_a1 F_a1 S_a1 N_a1 X_f0_piled X_f0_clock X_f0_groups X_f0_wrong X_a6 X_a7 X_a8 X_a9 X_a10 X_a11 X_a12 X_a13 X_p0 : Nat) : Bool :=
  (ab_lt X_p0 16 (k 16) (ab_le 160 X_p0 (k 16) (bz_isNode (fun X_r_4 => (ab_eq X_r_4 16 (k 16) (bz_isNode (fun X_r_7 => (ab_eq X_r_7 16 (k 16) (k 17))) X_a1 M_a1 F_a1 S_a1 N_a1 X_f0_piled X_f0_clock X_f0_groups X_f0_wrong X_a6 X_a7 X_a8 X_a9 X_a10 X_a11 X_a12 X_a13 (ab_sub X_p0 (ab_mul (ab_div X_p0 28) 28))))) X_a1 M_a1 F_a1 S_a1 N_a1 X_f0_piled X_f0_clock X_f0_groups X_f0_wrong X_a6 X_a7 X_a8 X_a9 X_a10 X_a11 X_a12 X_a13 (ab_div X_p0 28))))
theorem sz_areEndsG {e : Nat → Int32} {post : Int32 → Prop} {k : Nat → Bool} {X_a1 M_a1 F_a1 S_a1 N_a1 X_f0_piled X_f0_clock X_f0_groups X_f0_wrong X_a6 X_a7 X_a8 X_a9 X_a10 X_a11 X_a12 X_a13 X_p0 : Nat} {f0_op f0_piled f0_clock f0_groups f0_wrong p0 : Int32} {a1 a2 a3 a4 a5 a6 a7 a8 a9 a10 a11 a12 a13 : Nat → Int32} (hb : bz_areEndsG k X_a1 M_a1 F_a1 S_a1 N_a1 X_f0_piled X_f0_clock X_f0_groups X_f0_wrong X_a6 X_a7 X_a8 X_a9 X_a10 X_a11 X_a12 X_a13 X_p0 = true) (hk : ∀ ⦃R : Nat⦄ ⦃r : Int32⦄, k R = true → ab_rv e R r → post r) (g_a1 : ab_rg e X_a1 M_a1 F_a1 S_a1 N_a1 f0_op a1 a2 a3 a4 a5) (h_f0_piled : ab_rv e X_f0_piled f0_piled) (h_f0_clock : ab_rv e X_f0_clock f0_clock) (h_f0_groups : ab_rv e X_f0_groups f0_groups) (h_f0_wrong : ab_rv e X_f0_wrong f0_wrong) (h_a6 : ab_ra e 12 X_a6 a6) (h_a7 : ab_ra e 12 X_a7 a7) (h_a8 : ab_ra e 12 X_a8 a8) (h_a9 : ab_ra e 12 X_a9 a9) (h_a10 : ab_ra e 12 X_a10 a10) (h_a11 : ab_ra e 12 X_a11 a11) (h_a12 : ab_ra e 12 X_a12 a12) (h_a13 : ab_ra e 12 X_a13 a13) (h_p0 : ab_rv e X_p0 p0) : wpX_areEnds post (f0_op, f0_piled, f0_clock, f0_groups, f0_wrong, a1, a2, a3, a4, a5, a6, a7, a8, a9, a10, a11, a12, a13) p0 := by
  refine ab_ltS hb h_p0 ab_l0 (fun hb => ?_) (fun hb => ?_)
  · exact hk hb ab_l0
  · refine ab_leS hb ab_l144 h_p0 (fun hb => ?_) (fun hb => ?_)
    · exact hk hb ab_l0
    · refine ab_d12 ?_
      refine sz_isNode hb ?_ g_a1 h_f0_piled h_f0_clock h_f0_groups h_f0_wrong h_a6 h_a7 h_a8 h_a9 h_a10 h_a11 h_a12 h_a13 (ab_divS h_p0 ab_l12)
      intro X_r_4 r_4 hb h_r_4
      refine ab_eqS hb h_r_4 ab_l0 (fun hb => ?_) (fun hb => ?_)
      · exact hk hb ab_l0
      · refine ab_d12 ?_
        refine sz_isNode hb ?_ g_a1 h_f0_piled h_f0_clock h_f0_groups h_f0_wrong h_a6 h_a7 h_a8 h_a9 h_a10 h_a11 h_a12 h_a13 (ab_subS h_p0 (ab_mulS (ab_divS h_p0 ab_l12) ab_l12))
        intro X_r_7 r_7 hb h_r_7
        refine ab_eqS hb h_r_7 ab_l0 (fun hb => ?_) (fun hb => ?_)
        · exact hk hb ab_l0
        · exact hk hb ab_l1
theorem hq_areEnds0 {post : Int32 → Prop} {op pi cl gr wr : Int32} {a1 a2 a3 a4 a5 a6 a7 a8 a9 a10 a11 a12 a13 : Nat → Int32} {p0 : Int32} (h : ∀ m, m < 12 → ¬ a1 (16 + 7 * m) = 1) (H : post 0) : wpX_areEnds post (op, pi, cl, gr, wr, a1, a2, a3, a4, a5, a6, a7, a8, a9, a10, a11, a12, a13) p0 :=
  br_c (fun _ => H) (fun z1 => br_c (fun _ => H) (fun z2 => ab_d12 (hq_isNode0 h (br_t rfl H))))
noncomputable def bz_areEnds (k : Nat → Bool) (A M F S N P C G W B6 B7 B8 B9 B10 B11 B12 B13 : Nat) (X_p0 : Nat) : Bool :=
  ab_ite (Nat.ble 1073741824 X_p0) (ab_ite (ab_none A 16 7 12) (k 16) (bz_areEndsG k A M F S N P C G W B6 B7 B8 B9 B10 B11 B12 B13 X_p0)) (bz_areEndsG k A M F S N P C G W B6 B7 B8 B9 B10 B11 B12 B13 X_p0)
theorem sz_areEnds {e : Nat → Int32} {post : Int32 → Prop} {k : Nat → Bool} {A M F S N P C G W B6 B7 B8 B9 B10 B11 B12 B13 : Nat} {X_p0 : Nat} {p0 : Int32} {op pi cl gr wr : Int32} {a1 a2 a3 a4 a5 a6 a7 a8 a9 a10 a11 a12 a13 : Nat → Int32} (hb : bz_areEnds k A M F S N P C G W B6 B7 B8 B9 B10 B11 B12 B13 X_p0 = true) (hk : ∀ ⦃R : Nat⦄ ⦃r : Int32⦄, k R = true → ab_rv e R r → post r) (hg : ab_rg e A M F S N op a1 a2 a3 a4 a5) (hP : ab_rv e P pi) (hC : ab_rv e C cl) (hG : ab_rv e G gr) (hW : ab_rv e W wr) (q6 : ab_ra e 12 B6 a6) (q7 : ab_ra e 12 B7 a7) (q8 : ab_ra e 12 B8 a8) (q9 : ab_ra e 12 B9 a9) (q10 : ab_ra e 12 B10 a10) (q11 : ab_ra e 12 B11 a11) (q12 : ab_ra e 12 B12 a12) (q13 : ab_ra e 12 B13 a13) (h_p0 : ab_rv e X_p0 p0) :
    wpX_areEnds post (op, pi, cl, gr, wr, a1, a2, a3, a4, a5, a6, a7, a8, a9, a10, a11, a12, a13) p0 :=
  ab_wrap hb (fun h1 hb => hq_areEnds0 (fun m hm => ab_kneS (ab_noneS h1 m hm) (hg.1 (16 + 7 * m) (by omega) (by omega))) (hk hb ab_l0)) (fun hb => sz_areEndsG hb hk hg hP hC hG hW q6 q7 q8 q9 q10 q11 q12 q13 h_p0)
end
section
noncomputable def bz_add (k : Nat → Nat → Nat → Nat → Nat → Nat → Nat → Nat → Nat → Nat → Nat → Nat → Nat → Nat → Nat → Nat → Nat → Bool) (X_a1 M_a1 F_a1 S_a1 N_a1 X_f0_piled X_f0_clock X_f0_groups X_f0_wrong X_a6 X_a7 X_a8 X_a9 X_a10 X_a11 X_a12 X_a13 X_p0 X_p1 : Nat) : Bool :=
  (ab_vin 340 X_p0 (bz_put (fun X_am101_10 M_am101_10 F_am101_10 S_am101_10 N_am101_10 X_f0_piled_4 X_f0_clock_5 X_f0_groups_6 X_f0_wrong_7 X_am106_25 X_am107_28 X_am108_31 X_am109_34 X_am1010_37 X_am1011_40 X_am1012_43 X_am1013_46 => (k X_am101_10 M_am101_10 F_am101_10 S_am101_10 N_am101_10 X_f0_piled_4 X_f0_clock_5 X_f0_groups_6 X_f0_wrong_7 X_am106_25 X_am107_28 X_am108_31 X_am109_34 X_am1010_37 X_am1011_40 X_am1012_43 X_am1013_46)) X_a1 M_a1 F_a1 S_a1 N_a1 X_f0_piled X_f0_clock X_f0_groups X_f0_wrong X_a6 X_a7 X_a8 X_a9 X_a10 X_a11 X_a12 X_a13 X_p0 (ab_add (ab_rdc X_a1 X_p0) X_p1)))
theorem sz_add {e : Nat → Int32} {post : St2 → Prop} {k : Nat → Nat → Nat → Nat → Nat → Nat → Nat → Nat → Nat → Nat → Nat → Nat → Nat → Nat → Nat → Nat → Nat → Bool} {X_a1 M_a1 F_a1 S_a1 N_a1 X_f0_piled X_f0_clock X_f0_groups X_f0_wrong X_a6 X_a7 X_a8 X_a9 X_a10 X_a11 X_a12 X_a13 X_p0 X_p1 : Nat} {f0_op f0_piled f0_clock f0_groups f0_wrong p0 p1 : Int32} {a1 a2 a3 a4 a5 a6 a7 a8 a9 a10 a11 a12 a13 : Nat → Int32} (hb : bz_add k X_a1 M_a1 F_a1 S_a1 N_a1 X_f0_piled X_f0_clock X_f0_groups X_f0_wrong X_a6 X_a7 X_a8 X_a9 X_a10 X_a11 X_a12 X_a13 X_p0 X_p1 = true) (hk : ∀ ⦃A M F S N P C G W B6 B7 B8 B9 B10 B11 B12 B13 : Nat⦄ ⦃op pi cl gr wr : Int32⦄ ⦃c1 c2 c3 c4 c5 c6 c7 c8 c9 c10 c11 c12 c13 : Nat → Int32⦄, k A M F S N P C G W B6 B7 B8 B9 B10 B11 B12 B13 = true → ab_rg e A M F S N op c1 c2 c3 c4 c5 → ab_rv e P pi → ab_rv e C cl → ab_rv e G gr → ab_rv e W wr → ab_ra e 12 B6 c6 → ab_ra e 12 B7 c7 → ab_ra e 12 B8 c8 → ab_ra e 12 B9 c9 → ab_ra e 12 B10 c10 → ab_ra e 12 B11 c11 → ab_ra e 12 B12 c12 → ab_ra e 12 B13 c13 → post (op, pi, cl, gr, wr, c1, c2, c3, c4, c5, c6, c7, c8, c9, c10, c11, c12, c13)) (g_a1 : ab_rg e X_a1 M_a1 F_a1 S_a1 N_a1 f0_op a1 a2 a3 a4 a5) (h_f0_piled : ab_rv e X_f0_piled f0_piled) (h_f0_clock : ab_rv e X_f0_clock f0_clock) (h_f0_groups : ab_rv e X_f0_groups f0_groups) (h_f0_wrong : ab_rv e X_f0_wrong f0_wrong) (h_a6 : ab_ra e 12 X_a6 a6) (h_a7 : ab_ra e 12 X_a7 a7) (h_a8 : ab_ra e 12 X_a8 a8) (h_a9 : ab_ra e 12 X_a9 a9) (h_a10 : ab_ra e 12 X_a10 a10) (h_a11 : ab_ra e 12 X_a11 a11) (h_a12 : ab_ra e 12 X_a12 a12) (h_a13 : ab_ra e 12 X_a13 a13) (h_p0 : ab_rv e X_p0 p0) (h_p1 : ab_rv e X_p1 p1) : wpX_add post (f0_op, f0_piled, f0_clock, f0_groups, f0_wrong, a1, a2, a3, a4, a5, a6, a7, a8, a9, a10, a11, a12, a13) p0 p1 := by
  refine ab_vinS hb (by decide) h_p0 (fun hb => ?_)
  refine sz_put hb ?_ g_a1 h_f0_piled h_f0_clock h_f0_groups h_f0_wrong h_a6 h_a7 h_a8 h_a9 h_a10 h_a11 h_a12 h_a13 h_p0 (ab_addS (ab_rdcS g_a1.1 h_p0) h_p1)
  intro X_am101_10 M_am101_10 F_am101_10 S_am101_10 N_am101_10 X_f0_piled_4 X_f0_clock_5 X_f0_groups_6 X_f0_wrong_7 X_am106_25 X_am107_28 X_am108_31 X_am109_34 X_am1010_37 X_am1011_40 X_am1012_43 X_am1013_46 f0_op_3 f0_piled_4 f0_clock_5 f0_groups_6 f0_wrong_7 am101_10 am102_13 am103_16 am104_19 am105_22 am106_25 am107_28 am108_31 am109_34 am1010_37 am1011_40 am1012_43 am1013_46 hb g_am101_10 h_f0_piled_4 h_f0_clock_5 h_f0_groups_6 h_f0_wrong_7 h_am106_25 h_am107_28 h_am108_31 h_am109_34 h_am1010_37 h_am1011_40 h_am1012_43 h_am1013_46
  exact hk hb g_am101_10 h_f0_piled_4 h_f0_clock_5 h_f0_groups_6 h_f0_wrong_7 h_am106_25 h_am107_28 h_am108_31 h_am109_34 h_am1010_37 h_am1011_40 h_am1012_43 h_am1013_46
noncomputable def bz_isType (k : Nat → Bool) (X_p0 : Nat) : Bool :=
  (ab_lt X_p0 16 (k 16) (ab_lt 20 X_p0 (k 16) (k 17)))
theorem sz_isType {e : Nat → Int32} {post : Int32 → Prop} {k : Nat → Bool} {X_p0 : Nat} {p0 : Int32} (hb : bz_isType k X_p0 = true) (hk : ∀ ⦃R : Nat⦄ ⦃r : Int32⦄, k R = true → ab_rv e R r → post r) (h_p0 : ab_rv e X_p0 p0) : wpX_isType post () p0 := by
  refine ab_ltS hb h_p0 ab_l0 (fun hb => ?_) (fun hb => ?_)
  · exact hk hb ab_l0
  · refine ab_ltS hb ab_l4 h_p0 (fun hb => ?_) (fun hb => ?_)
    · exact hk hb ab_l0
    · exact hk hb ab_l1
noncomputable def bz_isOf (k : Nat → Bool) (X_a1 M_a1 F_a1 S_a1 N_a1 X_f0_piled X_f0_clock X_f0_groups X_f0_wrong X_a6 X_a7 X_a8 X_a9 X_a10 X_a11 X_a12 X_a13 X_p0 X_p1 : Nat) : Bool :=
  (ab_eq X_p1 20 (k 17) (bz_arrowCell (fun X_r_2 => (ab_vin 340 (ab_add X_r_2 19) (ab_eq (ab_rdc X_a1 (ab_add X_r_2 19)) X_p1 (k 17) (k 16)))) X_p0))
theorem sz_isOf {e : Nat → Int32} {post : Int32 → Prop} {k : Nat → Bool} {X_a1 M_a1 F_a1 S_a1 N_a1 X_f0_piled X_f0_clock X_f0_groups X_f0_wrong X_a6 X_a7 X_a8 X_a9 X_a10 X_a11 X_a12 X_a13 X_p0 X_p1 : Nat} {f0_op f0_piled f0_clock f0_groups f0_wrong p0 p1 : Int32} {a1 a2 a3 a4 a5 a6 a7 a8 a9 a10 a11 a12 a13 : Nat → Int32} (hb : bz_isOf k X_a1 M_a1 F_a1 S_a1 N_a1 X_f0_piled X_f0_clock X_f0_groups X_f0_wrong X_a6 X_a7 X_a8 X_a9 X_a10 X_a11 X_a12 X_a13 X_p0 X_p1 = true) (hk : ∀ ⦃R : Nat⦄ ⦃r : Int32⦄, k R = true → ab_rv e R r → post r) (g_a1 : ab_rg e X_a1 M_a1 F_a1 S_a1 N_a1 f0_op a1 a2 a3 a4 a5) (h_f0_piled : ab_rv e X_f0_piled f0_piled) (h_f0_clock : ab_rv e X_f0_clock f0_clock) (h_f0_groups : ab_rv e X_f0_groups f0_groups) (h_f0_wrong : ab_rv e X_f0_wrong f0_wrong) (h_a6 : ab_ra e 12 X_a6 a6) (h_a7 : ab_ra e 12 X_a7 a7) (h_a8 : ab_ra e 12 X_a8 a8) (h_a9 : ab_ra e 12 X_a9 a9) (h_a10 : ab_ra e 12 X_a10 a10) (h_a11 : ab_ra e 12 X_a11 a11) (h_a12 : ab_ra e 12 X_a12 a12) (h_a13 : ab_ra e 12 X_a13 a13) (h_p0 : ab_rv e X_p0 p0) (h_p1 : ab_rv e X_p1 p1) : wpX_isOf post (f0_op, f0_piled, f0_clock, f0_groups, f0_wrong, a1, a2, a3, a4, a5, a6, a7, a8, a9, a10, a11, a12, a13) p0 p1 := by
  refine ab_eqS hb h_p1 ab_l4 (fun hb => ?_) (fun hb => ?_)
  · exact hk hb ab_l1
  · refine sz_arrowCell hb ?_ h_p0
    intro X_r_2 r_2 hb h_r_2
    refine ab_vinS hb (by decide) (ab_addS h_r_2 ab_l3) (fun hb => ?_)
    refine ab_eqS hb (ab_rdcS g_a1.1 (ab_addS h_r_2 ab_l3)) h_p1 (fun hb => ?_) (fun hb => ?_)
    · exact hk hb ab_l1
    · exact hk hb ab_l0
noncomputable def bz_along_53 (k : Nat → Bool) (J21 : Nat → Nat → Nat → Bool) (X_x2 X_x3 X_x5 X_x6 X_z0 X_z1 X_f0_piled X_f0_clock X_f0_groups X_f0_wrong X_a1 M_a1 F_a1 S_a1 N_a1 X_a6 X_a7 X_a8 X_a9 X_a10 X_a11 X_a12 X_a13 : Nat) : Bool :=
  (ab_str (ab_or X_z1 X_z0) (fun X_x4_8 => (bz_arrowCell (fun X_r_9 => (ab_vin 340 (ab_add (ab_add X_r_9 21) X_x3) (ab_str (ab_rdc X_a1 (ab_add (ab_add X_r_9 21) X_x3)) (fun X_x5_11 => (ab_str (ab_add X_x6 17) (fun X_x6_12 => (J21 X_x4_8 X_x5_11 X_x6_12))))))) X_x5)))
theorem sz_along_53 {e : Nat → Int32} {post : Int32 → Prop} {k : Nat → Bool} {J21 : Nat → Nat → Nat → Bool} {CJ21 : Int32 → Int32 → Int32 → Prop} {X_x2 X_x3 X_x5 X_x6 X_z0 X_z1 X_f0_piled X_f0_clock X_f0_groups X_f0_wrong X_a1 M_a1 F_a1 S_a1 N_a1 X_a6 X_a7 X_a8 X_a9 X_a10 X_a11 X_a12 X_a13 : Nat} {x2 x3 x5 x6 z0 z1 f0_op f0_piled f0_clock f0_groups f0_wrong : Int32} {a1 a2 a3 a4 a5 a6 a7 a8 a9 a10 a11 a12 a13 : Nat → Int32} (hb : bz_along_53 k J21 X_x2 X_x3 X_x5 X_x6 X_z0 X_z1 X_f0_piled X_f0_clock X_f0_groups X_f0_wrong X_a1 M_a1 F_a1 S_a1 N_a1 X_a6 X_a7 X_a8 X_a9 X_a10 X_a11 X_a12 X_a13 = true) (hk : ∀ ⦃R : Nat⦄ ⦃r : Int32⦄, k R = true → ab_rv e R r → post r) (hJ21 : ∀ ⦃X_x4 X_x5 X_x6 : Nat⦄ ⦃x4 x5 x6 : Int32⦄, J21 X_x4 X_x5 X_x6 = true → ab_rv e X_x4 x4 → ab_rv e X_x5 x5 → ab_rv e X_x6 x6 → CJ21 x4 x5 x6) (h_x2 : ab_rv e X_x2 x2) (h_x3 : ab_rv e X_x3 x3) (h_x5 : ab_rv e X_x5 x5) (h_x6 : ab_rv e X_x6 x6) (h_z0 : ab_rv e X_z0 z0) (h_z1 : ab_rv e X_z1 z1) (h_f0_piled : ab_rv e X_f0_piled f0_piled) (h_f0_clock : ab_rv e X_f0_clock f0_clock) (h_f0_groups : ab_rv e X_f0_groups f0_groups) (h_f0_wrong : ab_rv e X_f0_wrong f0_wrong) (g_a1 : ab_rg e X_a1 M_a1 F_a1 S_a1 N_a1 f0_op a1 a2 a3 a4 a5) (h_a6 : ab_ra e 12 X_a6 a6) (h_a7 : ab_ra e 12 X_a7 a7) (h_a8 : ab_ra e 12 X_a8 a8) (h_a9 : ab_ra e 12 X_a9 a9) (h_a10 : ab_ra e 12 X_a10 a10) (h_a11 : ab_ra e 12 X_a11 a11) (h_a12 : ab_ra e 12 X_a12 a12) (h_a13 : ab_ra e 12 X_a13 a13) : wX_along_53 post CJ21 x2 x3 x5 x6 z0 z1 f0_op f0_piled f0_clock f0_groups f0_wrong a1 a2 a3 a4 a5 a6 a7 a8 a9 a10 a11 a12 a13 := by
  refine ab_letS hb (ab_orS h_z1 h_z0) ?_
  intro X_x4_8 x4_8 hb h_x4_8
  refine sz_arrowCell hb ?_ h_x5
  intro X_r_9 r_9 hb h_r_9
  refine ab_vinS hb (by decide) (ab_addS (ab_addS h_r_9 ab_l5) h_x3) (fun hb => ?_)
  refine ab_letS hb (ab_rdcS g_a1.1 (ab_addS (ab_addS h_r_9 ab_l5) h_x3)) ?_
  intro X_x5_11 x5_11 hb h_x5_11
  refine ab_letS hb (ab_addS h_x6 ab_l1) ?_
  intro X_x6_12 x6_12 hb h_x6_12
  exact hJ21 hb h_x4_8 h_x5_11 h_x6_12
noncomputable def bz_along_21 (k : Nat → Bool) (X_x2 X_x3 X_f0_piled X_f0_clock X_f0_groups X_f0_wrong X_a1 M_a1 F_a1 S_a1 N_a1 X_a6 X_a7 X_a8 X_a9 X_a10 X_a11 X_a12 X_a13 : Nat) (n : Nat) : Nat → Nat → Nat → Bool :=
  Nat.rec (motive := fun _ => Nat → Nat → Nat → Bool) (fun _ _ _ => false) (fun _ ih => fun X_x4 X_x5 X_x6 => (ab_le 40 X_x6 (k X_x4) (ab_lt X_x5 16 (k X_x4) (bz_isOf (fun X_r_6 => (ab_eq X_r_6 16 (bz_along_53 k ih X_x2 X_x3 X_x5 X_x6 16 X_x4 X_f0_piled X_f0_clock X_f0_groups X_f0_wrong X_a1 M_a1 F_a1 S_a1 N_a1 X_a6 X_a7 X_a8 X_a9 X_a10 X_a11 X_a12 X_a13) (bz_along_53 k ih X_x2 X_x3 X_x5 X_x6 (ab_shl 17 (ab_and X_x5 47)) X_x4 X_f0_piled X_f0_clock X_f0_groups X_f0_wrong X_a1 M_a1 F_a1 S_a1 N_a1 X_a6 X_a7 X_a8 X_a9 X_a10 X_a11 X_a12 X_a13))) X_a1 M_a1 F_a1 S_a1 N_a1 X_f0_piled X_f0_clock X_f0_groups X_f0_wrong X_a6 X_a7 X_a8 X_a9 X_a10 X_a11 X_a12 X_a13 X_x5 X_x2)))) n
theorem sz_along_21 {e : Nat → Int32} {post : Int32 → Prop} {k : Nat → Bool} {X_x2 X_x3 X_f0_piled X_f0_clock X_f0_groups X_f0_wrong X_a1 M_a1 F_a1 S_a1 N_a1 X_a6 X_a7 X_a8 X_a9 X_a10 X_a11 X_a12 X_a13 : Nat} {x2 x3 f0_op f0_piled f0_clock f0_groups f0_wrong : Int32} {a1 a2 a3 a4 a5 a6 a7 a8 a9 a10 a11 a12 a13 : Nat → Int32} (hk : ∀ ⦃R : Nat⦄ ⦃r : Int32⦄, k R = true → ab_rv e R r → post r) (h_x2 : ab_rv e X_x2 x2) (h_x3 : ab_rv e X_x3 x3) (h_f0_piled : ab_rv e X_f0_piled f0_piled) (h_f0_clock : ab_rv e X_f0_clock f0_clock) (h_f0_groups : ab_rv e X_f0_groups f0_groups) (h_f0_wrong : ab_rv e X_f0_wrong f0_wrong) (g_a1 : ab_rg e X_a1 M_a1 F_a1 S_a1 N_a1 f0_op a1 a2 a3 a4 a5) (h_a6 : ab_ra e 12 X_a6 a6) (h_a7 : ab_ra e 12 X_a7 a7) (h_a8 : ab_ra e 12 X_a8 a8) (h_a9 : ab_ra e 12 X_a9 a9) (h_a10 : ab_ra e 12 X_a10 a10) (h_a11 : ab_ra e 12 X_a11 a11) (h_a12 : ab_ra e 12 X_a12 a12) (h_a13 : ab_ra e 12 X_a13 a13) : ∀ (n : Nat) ⦃X_x4 X_x5 X_x6 : Nat⦄ ⦃x4 x5 x6 : Int32⦄, bz_along_21 k X_x2 X_x3 X_f0_piled X_f0_clock X_f0_groups X_f0_wrong X_a1 M_a1 F_a1 S_a1 N_a1 X_a6 X_a7 X_a8 X_a9 X_a10 X_a11 X_a12 X_a13 n X_x4 X_x5 X_x6 = true → ab_rv e X_x4 x4 → ab_rv e X_x5 x5 → ab_rv e X_x6 x6 → wX_along_21 post x2 x3 f0_op f0_piled f0_clock f0_groups f0_wrong a1 a2 a3 a4 a5 a6 a7 a8 a9 a10 a11 a12 a13 n x4 x5 x6 := by
  intro n
  induction n with
  | zero =>
    intro X_x4 X_x5 X_x6 x4 x5 x6 hb h_x4 h_x5 h_x6
    exact absurd (show false = true from hb) (by decide)
  | succ n ih =>
    intro X_x4 X_x5 X_x6 x4 x5 x6 hb h_x4 h_x5 h_x6
    refine ab_leS hb ab_l24 h_x6 (fun hb => ?_) (fun hb => ?_)
    · exact hk hb h_x4
    · refine ab_ltS hb h_x5 ab_l0 (fun hb => ?_) (fun hb => ?_)
      · exact hk hb h_x4
      · refine sz_isOf hb ?_ g_a1 h_f0_piled h_f0_clock h_f0_groups h_f0_wrong h_a6 h_a7 h_a8 h_a9 h_a10 h_a11 h_a12 h_a13 h_x5 h_x2
        intro X_r_6 r_6 hb h_r_6
        refine ab_eqS hb h_r_6 ab_l0 (fun hb => ?_) (fun hb => ?_)
        · exact sz_along_53 hb hk ih h_x2 h_x3 h_x5 h_x6 ab_l0 h_x4 h_f0_piled h_f0_clock h_f0_groups h_f0_wrong g_a1 h_a6 h_a7 h_a8 h_a9 h_a10 h_a11 h_a12 h_a13
        · exact sz_along_53 hb hk ih h_x2 h_x3 h_x5 h_x6 (ab_shlS ab_l1 (ab_andS h_x5 ab_l31)) h_x4 h_f0_piled h_f0_clock h_f0_groups h_f0_wrong g_a1 h_a6 h_a7 h_a8 h_a9 h_a10 h_a11 h_a12 h_a13
noncomputable def bz_along (k : Nat → Bool) (X_a1 M_a1 F_a1 S_a1 N_a1 X_f0_piled X_f0_clock X_f0_groups X_f0_wrong X_a6 X_a7 X_a8 X_a9 X_a10 X_a11 X_a12 X_a13 X_p0 X_p1 X_p2 : Nat) : Bool :=
  (bz_nodeAt (fun X_r_1 => (ab_vin 340 (ab_add (ab_add X_r_1 19) X_p2) (ab_str (ab_rdc X_a1 (ab_add (ab_add X_r_1 19) X_p2)) (fun X_x5_3 => (bz_along_21 k X_p1 X_p2 X_f0_piled X_f0_clock X_f0_groups X_f0_wrong X_a1 M_a1 F_a1 S_a1 N_a1 X_a6 X_a7 X_a8 X_a9 X_a10 X_a11 X_a12 X_a13 200 16 X_x5_3 16))))) X_p0)
theorem sz_along {e : Nat → Int32} {post : Int32 → Prop} {k : Nat → Bool} {X_a1 M_a1 F_a1 S_a1 N_a1 X_f0_piled X_f0_clock X_f0_groups X_f0_wrong X_a6 X_a7 X_a8 X_a9 X_a10 X_a11 X_a12 X_a13 X_p0 X_p1 X_p2 : Nat} {f0_op f0_piled f0_clock f0_groups f0_wrong p0 p1 p2 : Int32} {a1 a2 a3 a4 a5 a6 a7 a8 a9 a10 a11 a12 a13 : Nat → Int32} (hb : bz_along k X_a1 M_a1 F_a1 S_a1 N_a1 X_f0_piled X_f0_clock X_f0_groups X_f0_wrong X_a6 X_a7 X_a8 X_a9 X_a10 X_a11 X_a12 X_a13 X_p0 X_p1 X_p2 = true) (hk : ∀ ⦃R : Nat⦄ ⦃r : Int32⦄, k R = true → ab_rv e R r → post r) (g_a1 : ab_rg e X_a1 M_a1 F_a1 S_a1 N_a1 f0_op a1 a2 a3 a4 a5) (h_f0_piled : ab_rv e X_f0_piled f0_piled) (h_f0_clock : ab_rv e X_f0_clock f0_clock) (h_f0_groups : ab_rv e X_f0_groups f0_groups) (h_f0_wrong : ab_rv e X_f0_wrong f0_wrong) (h_a6 : ab_ra e 12 X_a6 a6) (h_a7 : ab_ra e 12 X_a7 a7) (h_a8 : ab_ra e 12 X_a8 a8) (h_a9 : ab_ra e 12 X_a9 a9) (h_a10 : ab_ra e 12 X_a10 a10) (h_a11 : ab_ra e 12 X_a11 a11) (h_a12 : ab_ra e 12 X_a12 a12) (h_a13 : ab_ra e 12 X_a13 a13) (h_p0 : ab_rv e X_p0 p0) (h_p1 : ab_rv e X_p1 p1) (h_p2 : ab_rv e X_p2 p2) : wpX_along post (f0_op, f0_piled, f0_clock, f0_groups, f0_wrong, a1, a2, a3, a4, a5, a6, a7, a8, a9, a10, a11, a12, a13) p0 p1 p2 := by
  unfold wpX_along
  refine sz_nodeAt hb ?_ h_p0
  intro X_r_1 r_1 hb h_r_1
  refine ab_vinS hb (by decide) (ab_addS (ab_addS h_r_1 ab_l3) h_p2) (fun hb => ?_)
  refine ab_letS hb (ab_rdcS g_a1.1 (ab_addS (ab_addS h_r_1 ab_l3) h_p2)) ?_
  intro X_x5_3 x5_3 hb h_x5_3
  exact ⟨200, sz_along_21 hk h_p1 h_p2 h_f0_piled h_f0_clock h_f0_groups h_f0_wrong g_a1 h_a6 h_a7 h_a8 h_a9 h_a10 h_a11 h_a12 h_a13 200 hb ab_l0 h_x5_3 ab_l0⟩
noncomputable def bz_arrowsOf_16 (k : Nat → Bool) (X_x1 X_x2 X_x3 X_z0 X_f0_piled X_f0_clock X_f0_groups X_f0_wrong X_a1 M_a1 F_a1 S_a1 N_a1 X_a6 X_a7 X_a8 X_a9 X_a10 X_a11 X_a12 X_a13 : Nat) : Bool :=
  (ab_eq X_x3 16 (k X_z0) (bz_along (fun X_r_4 => (ab_str (ab_or X_z0 X_r_4) (fun R => k R))) X_a1 M_a1 F_a1 S_a1 N_a1 X_f0_piled X_f0_clock X_f0_groups X_f0_wrong X_a6 X_a7 X_a8 X_a9 X_a10 X_a11 X_a12 X_a13 X_x1 X_x2 17))
theorem sz_arrowsOf_16 {e : Nat → Int32} {post : Int32 → Prop} {k : Nat → Bool} {X_x1 X_x2 X_x3 X_z0 X_f0_piled X_f0_clock X_f0_groups X_f0_wrong X_a1 M_a1 F_a1 S_a1 N_a1 X_a6 X_a7 X_a8 X_a9 X_a10 X_a11 X_a12 X_a13 : Nat} {x1 x2 x3 z0 f0_op f0_piled f0_clock f0_groups f0_wrong : Int32} {a1 a2 a3 a4 a5 a6 a7 a8 a9 a10 a11 a12 a13 : Nat → Int32} (hb : bz_arrowsOf_16 k X_x1 X_x2 X_x3 X_z0 X_f0_piled X_f0_clock X_f0_groups X_f0_wrong X_a1 M_a1 F_a1 S_a1 N_a1 X_a6 X_a7 X_a8 X_a9 X_a10 X_a11 X_a12 X_a13 = true) (hk : ∀ ⦃R : Nat⦄ ⦃r : Int32⦄, k R = true → ab_rv e R r → post r) (h_x1 : ab_rv e X_x1 x1) (h_x2 : ab_rv e X_x2 x2) (h_x3 : ab_rv e X_x3 x3) (h_z0 : ab_rv e X_z0 z0) (h_f0_piled : ab_rv e X_f0_piled f0_piled) (h_f0_clock : ab_rv e X_f0_clock f0_clock) (h_f0_groups : ab_rv e X_f0_groups f0_groups) (h_f0_wrong : ab_rv e X_f0_wrong f0_wrong) (g_a1 : ab_rg e X_a1 M_a1 F_a1 S_a1 N_a1 f0_op a1 a2 a3 a4 a5) (h_a6 : ab_ra e 12 X_a6 a6) (h_a7 : ab_ra e 12 X_a7 a7) (h_a8 : ab_ra e 12 X_a8 a8) (h_a9 : ab_ra e 12 X_a9 a9) (h_a10 : ab_ra e 12 X_a10 a10) (h_a11 : ab_ra e 12 X_a11 a11) (h_a12 : ab_ra e 12 X_a12 a12) (h_a13 : ab_ra e 12 X_a13 a13) : wX_arrowsOf_16 post x1 x2 x3 z0 f0_op f0_piled f0_clock f0_groups f0_wrong a1 a2 a3 a4 a5 a6 a7 a8 a9 a10 a11 a12 a13 := by
  refine ab_eqS hb h_x3 ab_l0 (fun hb => ?_) (fun hb => ?_)
  · exact hk hb h_z0
  · refine sz_along hb ?_ g_a1 h_f0_piled h_f0_clock h_f0_groups h_f0_wrong h_a6 h_a7 h_a8 h_a9 h_a10 h_a11 h_a12 h_a13 h_x1 h_x2 ab_l1
    intro X_r_4 r_4 hb h_r_4
    have hb := ab_strS hb
    exact hk hb (ab_orS h_z0 h_r_4)
noncomputable def bz_arrowsOf (k : Nat → Bool) (X_a1 M_a1 F_a1 S_a1 N_a1 X_f0_piled X_f0_clock X_f0_groups X_f0_wrong X_a6 X_a7 X_a8 X_a9 X_a10 X_a11 X_a12 X_a13 X_p0 X_p1 X_p2 : Nat) : Bool :=
  (ab_eq X_p2 17 (bz_arrowsOf_16 k X_p0 X_p1 X_p2 16 X_f0_piled X_f0_clock X_f0_groups X_f0_wrong X_a1 M_a1 F_a1 S_a1 N_a1 X_a6 X_a7 X_a8 X_a9 X_a10 X_a11 X_a12 X_a13) (bz_along (fun X_r_2 => (bz_arrowsOf_16 k X_p0 X_p1 X_p2 X_r_2 X_f0_piled X_f0_clock X_f0_groups X_f0_wrong X_a1 M_a1 F_a1 S_a1 N_a1 X_a6 X_a7 X_a8 X_a9 X_a10 X_a11 X_a12 X_a13)) X_a1 M_a1 F_a1 S_a1 N_a1 X_f0_piled X_f0_clock X_f0_groups X_f0_wrong X_a6 X_a7 X_a8 X_a9 X_a10 X_a11 X_a12 X_a13 X_p0 X_p1 16))
theorem sz_arrowsOf {e : Nat → Int32} {post : Int32 → Prop} {k : Nat → Bool} {X_a1 M_a1 F_a1 S_a1 N_a1 X_f0_piled X_f0_clock X_f0_groups X_f0_wrong X_a6 X_a7 X_a8 X_a9 X_a10 X_a11 X_a12 X_a13 X_p0 X_p1 X_p2 : Nat} {f0_op f0_piled f0_clock f0_groups f0_wrong p0 p1 p2 : Int32} {a1 a2 a3 a4 a5 a6 a7 a8 a9 a10 a11 a12 a13 : Nat → Int32} (hb : bz_arrowsOf k X_a1 M_a1 F_a1 S_a1 N_a1 X_f0_piled X_f0_clock X_f0_groups X_f0_wrong X_a6 X_a7 X_a8 X_a9 X_a10 X_a11 X_a12 X_a13 X_p0 X_p1 X_p2 = true) (hk : ∀ ⦃R : Nat⦄ ⦃r : Int32⦄, k R = true → ab_rv e R r → post r) (g_a1 : ab_rg e X_a1 M_a1 F_a1 S_a1 N_a1 f0_op a1 a2 a3 a4 a5) (h_f0_piled : ab_rv e X_f0_piled f0_piled) (h_f0_clock : ab_rv e X_f0_clock f0_clock) (h_f0_groups : ab_rv e X_f0_groups f0_groups) (h_f0_wrong : ab_rv e X_f0_wrong f0_wrong) (h_a6 : ab_ra e 12 X_a6 a6) (h_a7 : ab_ra e 12 X_a7 a7) (h_a8 : ab_ra e 12 X_a8 a8) (h_a9 : ab_ra e 12 X_a9 a9) (h_a10 : ab_ra e 12 X_a10 a10) (h_a11 : ab_ra e 12 X_a11 a11) (h_a12 : ab_ra e 12 X_a12 a12) (h_a13 : ab_ra e 12 X_a13 a13) (h_p0 : ab_rv e X_p0 p0) (h_p1 : ab_rv e X_p1 p1) (h_p2 : ab_rv e X_p2 p2) : wpX_arrowsOf post (f0_op, f0_piled, f0_clock, f0_groups, f0_wrong, a1, a2, a3, a4, a5, a6, a7, a8, a9, a10, a11, a12, a13) p0 p1 p2 := by
  refine ab_eqS hb h_p2 ab_l1 (fun hb => ?_) (fun hb => ?_)
  · exact sz_arrowsOf_16 hb hk h_p0 h_p1 h_p2 ab_l0 h_f0_piled h_f0_clock h_f0_groups h_f0_wrong g_a1 h_a6 h_a7 h_a8 h_a9 h_a10 h_a11 h_a12 h_a13
  · refine sz_along hb ?_ g_a1 h_f0_piled h_f0_clock h_f0_groups h_f0_wrong h_a6 h_a7 h_a8 h_a9 h_a10 h_a11 h_a12 h_a13 h_p0 h_p1 ab_l0
    intro X_r_2 r_2 hb h_r_2
    exact sz_arrowsOf_16 hb hk h_p0 h_p1 h_p2 h_r_2 h_f0_piled h_f0_clock h_f0_groups h_f0_wrong g_a1 h_a6 h_a7 h_a8 h_a9 h_a10 h_a11 h_a12 h_a13
noncomputable def bz_ones_4 (k : Nat → Bool) (X_x0 : Nat) (n : Nat) : Nat → Nat → Bool :=
  Nat.rec (motive := fun _ => Nat → Nat → Bool) (fun _ _ => false) (fun _ ih => fun X_x1 X_x2 => (ab_le 40 X_x2 (k X_x1) (ab_str (ab_add X_x1 (ab_and (ab_shr X_x0 (ab_and X_x2 47)) 17)) (fun X_x1_2 => (ab_str (ab_add X_x2 17) (fun X_x2_3 => (ih X_x1_2 X_x2_3))))))) n
theorem sz_ones_4 {e : Nat → Int32} {post : Int32 → Prop} {k : Nat → Bool} {X_x0 : Nat} {x0 : Int32} (hk : ∀ ⦃R : Nat⦄ ⦃r : Int32⦄, k R = true → ab_rv e R r → post r) (h_x0 : ab_rv e X_x0 x0) : ∀ (n : Nat) ⦃X_x1 X_x2 : Nat⦄ ⦃x1 x2 : Int32⦄, bz_ones_4 k X_x0 n X_x1 X_x2 = true → ab_rv e X_x1 x1 → ab_rv e X_x2 x2 → wX_ones_4 post x0 n x1 x2 := by
  intro n
  induction n with
  | zero =>
    intro X_x1 X_x2 x1 x2 hb h_x1 h_x2
    exact absurd (show false = true from hb) (by decide)
  | succ n ih =>
    intro X_x1 X_x2 x1 x2 hb h_x1 h_x2
    refine ab_leS hb ab_l24 h_x2 (fun hb => ?_) (fun hb => ?_)
    · exact hk hb h_x1
    · refine ab_letS hb (ab_addS h_x1 (ab_andS (ab_shrS h_x0 (ab_andS h_x2 ab_l31)) ab_l1)) ?_
      intro X_x1_2 x1_2 hb h_x1_2
      refine ab_letS hb (ab_addS h_x2 ab_l1) ?_
      intro X_x2_3 x2_3 hb h_x2_3
      exact ih hb h_x1_2 h_x2_3
noncomputable def bz_ones (k : Nat → Bool) (X_p0 : Nat) : Bool :=
  (bz_ones_4 k X_p0 200 16 16)
theorem sz_ones {e : Nat → Int32} {post : Int32 → Prop} {k : Nat → Bool} {X_p0 : Nat} {p0 : Int32} (hb : bz_ones k X_p0 = true) (hk : ∀ ⦃R : Nat⦄ ⦃r : Int32⦄, k R = true → ab_rv e R r → post r) (h_p0 : ab_rv e X_p0 p0) : wpX_ones post () p0 := by
  exact ⟨200, sz_ones_4 hk h_p0 200 hb ab_l0 ab_l0⟩
noncomputable def bz_degree (k : Nat → Bool) (X_a1 M_a1 F_a1 S_a1 N_a1 X_f0_piled X_f0_clock X_f0_groups X_f0_wrong X_a6 X_a7 X_a8 X_a9 X_a10 X_a11 X_a12 X_a13 X_p0 X_p1 X_p2 : Nat) : Bool :=
  (bz_isNode (fun X_r_1 => (ab_eq X_r_1 16 (k 15) (bz_isType (fun X_r_3 => (ab_eq X_r_3 16 (k 15) (ab_lt X_p2 16 (k 15) (ab_le X_p2 18 (bz_arrowsOf (fun X_r_7 => (bz_ones (fun X_r_8 => (k X_r_8)) X_r_7)) X_a1 M_a1 F_a1 S_a1 N_a1 X_f0_piled X_f0_clock X_f0_groups X_f0_wrong X_a6 X_a7 X_a8 X_a9 X_a10 X_a11 X_a12 X_a13 X_p0 X_p1 X_p2) (k 15))))) X_p1))) X_a1 M_a1 F_a1 S_a1 N_a1 X_f0_piled X_f0_clock X_f0_groups X_f0_wrong X_a6 X_a7 X_a8 X_a9 X_a10 X_a11 X_a12 X_a13 X_p0)
theorem sz_degree {e : Nat → Int32} {post : Int32 → Prop} {k : Nat → Bool} {X_a1 M_a1 F_a1 S_a1 N_a1 X_f0_piled X_f0_clock X_f0_groups X_f0_wrong X_a6 X_a7 X_a8 X_a9 X_a10 X_a11 X_a12 X_a13 X_p0 X_p1 X_p2 : Nat} {f0_op f0_piled f0_clock f0_groups f0_wrong p0 p1 p2 : Int32} {a1 a2 a3 a4 a5 a6 a7 a8 a9 a10 a11 a12 a13 : Nat → Int32} (hb : bz_degree k X_a1 M_a1 F_a1 S_a1 N_a1 X_f0_piled X_f0_clock X_f0_groups X_f0_wrong X_a6 X_a7 X_a8 X_a9 X_a10 X_a11 X_a12 X_a13 X_p0 X_p1 X_p2 = true) (hk : ∀ ⦃R : Nat⦄ ⦃r : Int32⦄, k R = true → ab_rv e R r → post r) (g_a1 : ab_rg e X_a1 M_a1 F_a1 S_a1 N_a1 f0_op a1 a2 a3 a4 a5) (h_f0_piled : ab_rv e X_f0_piled f0_piled) (h_f0_clock : ab_rv e X_f0_clock f0_clock) (h_f0_groups : ab_rv e X_f0_groups f0_groups) (h_f0_wrong : ab_rv e X_f0_wrong f0_wrong) (h_a6 : ab_ra e 12 X_a6 a6) (h_a7 : ab_ra e 12 X_a7 a7) (h_a8 : ab_ra e 12 X_a8 a8) (h_a9 : ab_ra e 12 X_a9 a9) (h_a10 : ab_ra e 12 X_a10 a10) (h_a11 : ab_ra e 12 X_a11 a11) (h_a12 : ab_ra e 12 X_a12 a12) (h_a13 : ab_ra e 12 X_a13 a13) (h_p0 : ab_rv e X_p0 p0) (h_p1 : ab_rv e X_p1 p1) (h_p2 : ab_rv e X_p2 p2) : wpX_degree post (f0_op, f0_piled, f0_clock, f0_groups, f0_wrong, a1, a2, a3, a4, a5, a6, a7, a8, a9, a10, a11, a12, a13) p0 p1 p2 := by
  unfold wpX_degree
  refine sz_isNode hb ?_ g_a1 h_f0_piled h_f0_clock h_f0_groups h_f0_wrong h_a6 h_a7 h_a8 h_a9 h_a10 h_a11 h_a12 h_a13 h_p0
  intro X_r_1 r_1 hb h_r_1
  refine ab_eqS hb h_r_1 ab_l0 (fun hb => ?_) (fun hb => ?_)
  · exact hk hb ab_m1
  · refine sz_isType hb ?_ h_p1
    intro X_r_3 r_3 hb h_r_3
    refine ab_eqS hb h_r_3 ab_l0 (fun hb => ?_) (fun hb => ?_)
    · exact hk hb ab_m1
    · refine ab_ltS hb h_p2 ab_l0 (fun hb => ?_) (fun hb => ?_)
      · exact hk hb ab_m1
      · refine ab_leS hb h_p2 ab_l2 (fun hb => ?_) (fun hb => ?_)
        · refine sz_arrowsOf hb ?_ g_a1 h_f0_piled h_f0_clock h_f0_groups h_f0_wrong h_a6 h_a7 h_a8 h_a9 h_a10 h_a11 h_a12 h_a13 h_p0 h_p1 h_p2
          intro X_r_7 r_7 hb h_r_7
          refine sz_ones hb ?_ h_r_7
          intro X_r_8 r_8 hb h_r_8
          exact hk hb h_r_8
        · exact hk hb ab_m1
noncomputable def bz_arrowAt_92 (k : Nat → Bool) (J66 : Nat → Nat → Bool) (X_x5 X_x6 X_x7 X_f0_piled X_f0_clock X_f0_groups X_f0_wrong X_a1 M_a1 F_a1 S_a1 N_a1 X_a6 X_a7 X_a8 X_a9 X_a10 X_a11 X_a12 X_a13 : Nat) : Bool :=
  (ab_str (ab_sub X_x6 (ab_and (ab_shr X_x5 (ab_and X_x7 47)) 17)) (fun X_x6_18 => (ab_str (ab_add X_x7 17) (fun X_x7_19 => (J66 X_x6_18 X_x7_19)))))
theorem sz_arrowAt_92 {e : Nat → Int32} {post : Int32 → Prop} {k : Nat → Bool} {J66 : Nat → Nat → Bool} {CJ66 : Int32 → Int32 → Prop} {X_x5 X_x6 X_x7 X_f0_piled X_f0_clock X_f0_groups X_f0_wrong X_a1 M_a1 F_a1 S_a1 N_a1 X_a6 X_a7 X_a8 X_a9 X_a10 X_a11 X_a12 X_a13 : Nat} {x5 x6 x7 f0_op f0_piled f0_clock f0_groups f0_wrong : Int32} {a1 a2 a3 a4 a5 a6 a7 a8 a9 a10 a11 a12 a13 : Nat → Int32} (hb : bz_arrowAt_92 k J66 X_x5 X_x6 X_x7 X_f0_piled X_f0_clock X_f0_groups X_f0_wrong X_a1 M_a1 F_a1 S_a1 N_a1 X_a6 X_a7 X_a8 X_a9 X_a10 X_a11 X_a12 X_a13 = true) (hk : ∀ ⦃R : Nat⦄ ⦃r : Int32⦄, k R = true → ab_rv e R r → post r) (hJ66 : ∀ ⦃X_x6 X_x7 : Nat⦄ ⦃x6 x7 : Int32⦄, J66 X_x6 X_x7 = true → ab_rv e X_x6 x6 → ab_rv e X_x7 x7 → CJ66 x6 x7) (h_x5 : ab_rv e X_x5 x5) (h_x6 : ab_rv e X_x6 x6) (h_x7 : ab_rv e X_x7 x7) (h_f0_piled : ab_rv e X_f0_piled f0_piled) (h_f0_clock : ab_rv e X_f0_clock f0_clock) (h_f0_groups : ab_rv e X_f0_groups f0_groups) (h_f0_wrong : ab_rv e X_f0_wrong f0_wrong) (g_a1 : ab_rg e X_a1 M_a1 F_a1 S_a1 N_a1 f0_op a1 a2 a3 a4 a5) (h_a6 : ab_ra e 12 X_a6 a6) (h_a7 : ab_ra e 12 X_a7 a7) (h_a8 : ab_ra e 12 X_a8 a8) (h_a9 : ab_ra e 12 X_a9 a9) (h_a10 : ab_ra e 12 X_a10 a10) (h_a11 : ab_ra e 12 X_a11 a11) (h_a12 : ab_ra e 12 X_a12 a12) (h_a13 : ab_ra e 12 X_a13 a13) : wX_arrowAt_92 post CJ66 x5 x6 x7 f0_op f0_piled f0_clock f0_groups f0_wrong a1 a2 a3 a4 a5 a6 a7 a8 a9 a10 a11 a12 a13 := by
  refine ab_letS hb (ab_subS h_x6 (ab_andS (ab_shrS h_x5 (ab_andS h_x7 ab_l31)) ab_l1)) ?_
  intro X_x6_18 x6_18 hb h_x6_18
  refine ab_letS hb (ab_addS h_x7 ab_l1) ?_
  intro X_x7_19 x7_19 hb h_x7_19
  exact hJ66 hb h_x6_18 h_x7_19
noncomputable def bz_arrowAt_66 (k : Nat → Bool) (X_x5 X_f0_piled X_f0_clock X_f0_groups X_f0_wrong X_a1 M_a1 F_a1 S_a1 N_a1 X_a6 X_a7 X_a8 X_a9 X_a10 X_a11 X_a12 X_a13 : Nat) (n : Nat) : Nat → Nat → Bool :=
  Nat.rec (motive := fun _ => Nat → Nat → Bool) (fun _ _ => false) (fun _ ih => fun X_x6 X_x7 => (ab_le 40 X_x7 (k 14) (ab_eq (ab_and (ab_shr X_x5 (ab_and X_x7 47)) 17) 17 (ab_eq X_x6 16 (k X_x7) (bz_arrowAt_92 k ih X_x5 X_x6 X_x7 X_f0_piled X_f0_clock X_f0_groups X_f0_wrong X_a1 M_a1 F_a1 S_a1 N_a1 X_a6 X_a7 X_a8 X_a9 X_a10 X_a11 X_a12 X_a13)) (bz_arrowAt_92 k ih X_x5 X_x6 X_x7 X_f0_piled X_f0_clock X_f0_groups X_f0_wrong X_a1 M_a1 F_a1 S_a1 N_a1 X_a6 X_a7 X_a8 X_a9 X_a10 X_a11 X_a12 X_a13)))) n
theorem sz_arrowAt_66 {e : Nat → Int32} {post : Int32 → Prop} {k : Nat → Bool} {X_x5 X_f0_piled X_f0_clock X_f0_groups X_f0_wrong X_a1 M_a1 F_a1 S_a1 N_a1 X_a6 X_a7 X_a8 X_a9 X_a10 X_a11 X_a12 X_a13 : Nat} {x5 f0_op f0_piled f0_clock f0_groups f0_wrong : Int32} {a1 a2 a3 a4 a5 a6 a7 a8 a9 a10 a11 a12 a13 : Nat → Int32} (hk : ∀ ⦃R : Nat⦄ ⦃r : Int32⦄, k R = true → ab_rv e R r → post r) (h_x5 : ab_rv e X_x5 x5) (h_f0_piled : ab_rv e X_f0_piled f0_piled) (h_f0_clock : ab_rv e X_f0_clock f0_clock) (h_f0_groups : ab_rv e X_f0_groups f0_groups) (h_f0_wrong : ab_rv e X_f0_wrong f0_wrong) (g_a1 : ab_rg e X_a1 M_a1 F_a1 S_a1 N_a1 f0_op a1 a2 a3 a4 a5) (h_a6 : ab_ra e 12 X_a6 a6) (h_a7 : ab_ra e 12 X_a7 a7) (h_a8 : ab_ra e 12 X_a8 a8) (h_a9 : ab_ra e 12 X_a9 a9) (h_a10 : ab_ra e 12 X_a10 a10) (h_a11 : ab_ra e 12 X_a11 a11) (h_a12 : ab_ra e 12 X_a12 a12) (h_a13 : ab_ra e 12 X_a13 a13) : ∀ (n : Nat) ⦃X_x6 X_x7 : Nat⦄ ⦃x6 x7 : Int32⦄, bz_arrowAt_66 k X_x5 X_f0_piled X_f0_clock X_f0_groups X_f0_wrong X_a1 M_a1 F_a1 S_a1 N_a1 X_a6 X_a7 X_a8 X_a9 X_a10 X_a11 X_a12 X_a13 n X_x6 X_x7 = true → ab_rv e X_x6 x6 → ab_rv e X_x7 x7 → wX_arrowAt_66 post x5 f0_op f0_piled f0_clock f0_groups f0_wrong a1 a2 a3 a4 a5 a6 a7 a8 a9 a10 a11 a12 a13 n x6 x7 := by
  intro n
  induction n with
  | zero =>
    intro X_x6 X_x7 x6 x7 hb h_x6 h_x7
    exact absurd (show false = true from hb) (by decide)
  | succ n ih =>
    intro X_x6 X_x7 x6 x7 hb h_x6 h_x7
    refine ab_leS hb ab_l24 h_x7 (fun hb => ?_) (fun hb => ?_)
    · exact hk hb ab_m2
    · refine ab_eqS hb (ab_andS (ab_shrS h_x5 (ab_andS h_x7 ab_l31)) ab_l1) ab_l1 (fun hb => ?_) (fun hb => ?_)
      · refine ab_eqS hb h_x6 ab_l0 (fun hb => ?_) (fun hb => ?_)
        · exact hk hb h_x7
        · exact sz_arrowAt_92 hb hk ih h_x5 h_x6 h_x7 h_f0_piled h_f0_clock h_f0_groups h_f0_wrong g_a1 h_a6 h_a7 h_a8 h_a9 h_a10 h_a11 h_a12 h_a13
      · exact sz_arrowAt_92 hb hk ih h_x5 h_x6 h_x7 h_f0_piled h_f0_clock h_f0_groups h_f0_wrong g_a1 h_a6 h_a7 h_a8 h_a9 h_a10 h_a11 h_a12 h_a13
noncomputable def bz_arrowAt (k : Nat → Bool) (X_a1 M_a1 F_a1 S_a1 N_a1 X_f0_piled X_f0_clock X_f0_groups X_f0_wrong X_a6 X_a7 X_a8 X_a9 X_a10 X_a11 X_a12 X_a13 X_p0 X_p1 : Nat) : Bool :=
  (ab_str (ab_sub (ab_div X_p0 32) (ab_mul (ab_div (ab_div X_p0 32) 28) 28)) (fun X_x3_3 => (ab_str (ab_div (ab_div X_p0 32) 28) (fun X_x4_6 => (ab_lt X_p0 16 (k 15) (bz_isNode (fun X_r_8 => (ab_eq X_r_8 16 (k 15) (bz_isType (fun X_r_11 => (ab_eq X_r_11 16 (k 15) (ab_le X_x4_6 18 (bz_arrowsOf (fun X_r_15 => (bz_arrowAt_66 k X_r_15 X_f0_piled X_f0_clock X_f0_groups X_f0_wrong X_a1 M_a1 F_a1 S_a1 N_a1 X_a6 X_a7 X_a8 X_a9 X_a10 X_a11 X_a12 X_a13 200 X_p1 16)) X_a1 M_a1 F_a1 S_a1 N_a1 X_f0_piled X_f0_clock X_f0_groups X_f0_wrong X_a6 X_a7 X_a8 X_a9 X_a10 X_a11 X_a12 X_a13 X_x3_3 (ab_sub X_p0 (ab_mul (ab_div X_p0 32) 32)) X_x4_6) (k 15)))) (ab_sub X_p0 (ab_mul (ab_div X_p0 32) 32))))) X_a1 M_a1 F_a1 S_a1 N_a1 X_f0_piled X_f0_clock X_f0_groups X_f0_wrong X_a6 X_a7 X_a8 X_a9 X_a10 X_a11 X_a12 X_a13 X_x3_3))))))
theorem sz_arrowAt {e : Nat → Int32} {post : Int32 → Prop} {k : Nat → Bool} {X_a1 M_a1 F_a1 S_a1 N_a1 X_f0_piled X_f0_clock X_f0_groups X_f0_wrong X_a6 X_a7 X_a8 X_a9 X_a10 X_a11 X_a12 X_a13 X_p0 X_p1 : Nat} {f0_op f0_piled f0_clock f0_groups f0_wrong p0 p1 : Int32} {a1 a2 a3 a4 a5 a6 a7 a8 a9 a10 a11 a12 a13 : Nat → Int32} (hb : bz_arrowAt k X_a1 M_a1 F_a1 S_a1 N_a1 X_f0_piled X_f0_clock X_f0_groups X_f0_wrong X_a6 X_a7 X_a8 X_a9 X_a10 X_a11 X_a12 X_a13 X_p0 X_p1 = true) (hk : ∀ ⦃R : Nat⦄ ⦃r : Int32⦄, k R = true → ab_rv e R r → post r) (g_a1 : ab_rg e X_a1 M_a1 F_a1 S_a1 N_a1 f0_op a1 a2 a3 a4 a5) (h_f0_piled : ab_rv e X_f0_piled f0_piled) (h_f0_clock : ab_rv e X_f0_clock f0_clock) (h_f0_groups : ab_rv e X_f0_groups f0_groups) (h_f0_wrong : ab_rv e X_f0_wrong f0_wrong) (h_a6 : ab_ra e 12 X_a6 a6) (h_a7 : ab_ra e 12 X_a7 a7) (h_a8 : ab_ra e 12 X_a8 a8) (h_a9 : ab_ra e 12 X_a9 a9) (h_a10 : ab_ra e 12 X_a10 a10) (h_a11 : ab_ra e 12 X_a11 a11) (h_a12 : ab_ra e 12 X_a12 a12) (h_a13 : ab_ra e 12 X_a13 a13) (h_p0 : ab_rv e X_p0 p0) (h_p1 : ab_rv e X_p1 p1) : wpX_arrowAt post (f0_op, f0_piled, f0_clock, f0_groups, f0_wrong, a1, a2, a3, a4, a5, a6, a7, a8, a9, a10, a11, a12, a13) p0 p1 := by
  refine ab_d16 ?_
  refine ab_d12 ?_
  refine ab_letS hb (ab_subS (ab_divS h_p0 ab_l16) (ab_mulS (ab_divS (ab_divS h_p0 ab_l16) ab_l12) ab_l12)) ?_
  intro X_x3_3 x3_3 hb h_x3_3
  refine ab_d16 ?_
  refine ab_d12 ?_
  refine ab_letS hb (ab_divS (ab_divS h_p0 ab_l16) ab_l12) ?_
  intro X_x4_6 x4_6 hb h_x4_6
  refine ab_ltS hb h_p0 ab_l0 (fun hb => ?_) (fun hb => ?_)
  · exact hk hb ab_m1
  · refine sz_isNode hb ?_ g_a1 h_f0_piled h_f0_clock h_f0_groups h_f0_wrong h_a6 h_a7 h_a8 h_a9 h_a10 h_a11 h_a12 h_a13 h_x3_3
    intro X_r_8 r_8 hb h_r_8
    refine ab_eqS hb h_r_8 ab_l0 (fun hb => ?_) (fun hb => ?_)
    · exact hk hb ab_m1
    · refine ab_d16 ?_
      refine sz_isType hb ?_ (ab_subS h_p0 (ab_mulS (ab_divS h_p0 ab_l16) ab_l16))
      intro X_r_11 r_11 hb h_r_11
      refine ab_eqS hb h_r_11 ab_l0 (fun hb => ?_) (fun hb => ?_)
      · exact hk hb ab_m1
      · refine ab_leS hb h_x4_6 ab_l2 (fun hb => ?_) (fun hb => ?_)
        · refine ab_d16 ?_
          refine sz_arrowsOf hb ?_ g_a1 h_f0_piled h_f0_clock h_f0_groups h_f0_wrong h_a6 h_a7 h_a8 h_a9 h_a10 h_a11 h_a12 h_a13 h_x3_3 (ab_subS h_p0 (ab_mulS (ab_divS h_p0 ab_l16) ab_l16)) h_x4_6
          intro X_r_15 r_15 hb h_r_15
          exact ⟨200, sz_arrowAt_66 hk h_r_15 h_f0_piled h_f0_clock h_f0_groups h_f0_wrong g_a1 h_a6 h_a7 h_a8 h_a9 h_a10 h_a11 h_a12 h_a13 200 hb h_p1 ab_l0⟩
        · exact hk hb ab_m1
noncomputable def bz_chains_32 (k : Nat → Bool) (X_x1 X_x2 X_x3 X_f0_piled X_f0_clock X_f0_groups X_f0_wrong X_a1 M_a1 F_a1 S_a1 N_a1 X_a6 X_a7 X_a8 X_a9 X_a10 X_a11 X_a12 X_a13 : Nat) (n : Nat) : Nat → Nat → Bool :=
  Nat.rec (motive := fun _ => Nat → Nat → Bool) (fun _ _ => false) (fun _ ih => fun X_x4 X_x5 => (ab_le 28 X_x5 (k X_x4) (bz_isNode (fun X_r_8 => (ab_eq X_r_8 16 (ab_str (ab_add X_x5 17) (fun X_x5_10 => (ih X_x4 X_x5_10))) (bz_nodeAt (fun X_r_11 => (ab_vin 340 (ab_add X_r_11 17) (ab_eq (ab_and (ab_rdc X_a1 (ab_add X_r_11 17)) X_x3) X_x3 (bz_along (fun X_r_15 => (bz_along (fun X_r_16 => (bz_ones (fun X_r_17 => (bz_ones (fun X_r_18 => (bz_ones (fun X_r_19 => (ab_str (ab_add X_x4 (ab_sub (ab_mul X_r_17 X_r_18) X_r_19)) (fun X_x4_20 => (ab_str (ab_add X_x5 17) (fun X_x5_21 => (ih X_x4_20 X_x5_21)))))) (ab_and X_r_15 X_r_16))) X_r_16)) X_r_15)) X_a1 M_a1 F_a1 S_a1 N_a1 X_f0_piled X_f0_clock X_f0_groups X_f0_wrong X_a6 X_a7 X_a8 X_a9 X_a10 X_a11 X_a12 X_a13 X_x5 X_x2 16)) X_a1 M_a1 F_a1 S_a1 N_a1 X_f0_piled X_f0_clock X_f0_groups X_f0_wrong X_a6 X_a7 X_a8 X_a9 X_a10 X_a11 X_a12 X_a13 X_x5 X_x1 17) (ab_str (ab_add X_x5 17) (fun X_x5_14 => (ih X_x4 X_x5_14)))))) X_x5))) X_a1 M_a1 F_a1 S_a1 N_a1 X_f0_piled X_f0_clock X_f0_groups X_f0_wrong X_a6 X_a7 X_a8 X_a9 X_a10 X_a11 X_a12 X_a13 X_x5))) n
theorem sz_chains_32 {e : Nat → Int32} {post : Int32 → Prop} {k : Nat → Bool} {X_x1 X_x2 X_x3 X_f0_piled X_f0_clock X_f0_groups X_f0_wrong X_a1 M_a1 F_a1 S_a1 N_a1 X_a6 X_a7 X_a8 X_a9 X_a10 X_a11 X_a12 X_a13 : Nat} {x1 x2 x3 f0_op f0_piled f0_clock f0_groups f0_wrong : Int32} {a1 a2 a3 a4 a5 a6 a7 a8 a9 a10 a11 a12 a13 : Nat → Int32} (hk : ∀ ⦃R : Nat⦄ ⦃r : Int32⦄, k R = true → ab_rv e R r → post r) (h_x1 : ab_rv e X_x1 x1) (h_x2 : ab_rv e X_x2 x2) (h_x3 : ab_rv e X_x3 x3) (h_f0_piled : ab_rv e X_f0_piled f0_piled) (h_f0_clock : ab_rv e X_f0_clock f0_clock) (h_f0_groups : ab_rv e X_f0_groups f0_groups) (h_f0_wrong : ab_rv e X_f0_wrong f0_wrong) (g_a1 : ab_rg e X_a1 M_a1 F_a1 S_a1 N_a1 f0_op a1 a2 a3 a4 a5) (h_a6 : ab_ra e 12 X_a6 a6) (h_a7 : ab_ra e 12 X_a7 a7) (h_a8 : ab_ra e 12 X_a8 a8) (h_a9 : ab_ra e 12 X_a9 a9) (h_a10 : ab_ra e 12 X_a10 a10) (h_a11 : ab_ra e 12 X_a11 a11) (h_a12 : ab_ra e 12 X_a12 a12) (h_a13 : ab_ra e 12 X_a13 a13) : ∀ (n : Nat) ⦃X_x4 X_x5 : Nat⦄ ⦃x4 x5 : Int32⦄, bz_chains_32 k X_x1 X_x2 X_x3 X_f0_piled X_f0_clock X_f0_groups X_f0_wrong X_a1 M_a1 F_a1 S_a1 N_a1 X_a6 X_a7 X_a8 X_a9 X_a10 X_a11 X_a12 X_a13 n X_x4 X_x5 = true → ab_rv e X_x4 x4 → ab_rv e X_x5 x5 → wX_chains_32 post x1 x2 x3 f0_op f0_piled f0_clock f0_groups f0_wrong a1 a2 a3 a4 a5 a6 a7 a8 a9 a10 a11 a12 a13 n x4 x5 := by
  intro n
  induction n with
  | zero =>
    intro X_x4 X_x5 x4 x5 hb h_x4 h_x5
    exact absurd (show false = true from hb) (by decide)
  | succ n ih =>
    intro X_x4 X_x5 x4 x5 hb h_x4 h_x5
    refine ab_leS hb ab_l12 h_x5 (fun hb => ?_) (fun hb => ?_)
    · exact hk hb h_x4
    · refine sz_isNode hb ?_ g_a1 h_f0_piled h_f0_clock h_f0_groups h_f0_wrong h_a6 h_a7 h_a8 h_a9 h_a10 h_a11 h_a12 h_a13 h_x5
      intro X_r_8 r_8 hb h_r_8
      refine ab_eqS hb h_r_8 ab_l0 (fun hb => ?_) (fun hb => ?_)
      · refine ab_letS hb (ab_addS h_x5 ab_l1) ?_
        intro X_x5_10 x5_10 hb h_x5_10
        exact ih hb h_x4 h_x5_10
      · refine sz_nodeAt hb ?_ h_x5
        intro X_r_11 r_11 hb h_r_11
        refine ab_vinS hb (by decide) (ab_addS h_r_11 ab_l1) (fun hb => ?_)
        refine ab_eqS hb (ab_andS (ab_rdcS g_a1.1 (ab_addS h_r_11 ab_l1)) h_x3) h_x3 (fun hb => ?_) (fun hb => ?_)
        · refine sz_along hb ?_ g_a1 h_f0_piled h_f0_clock h_f0_groups h_f0_wrong h_a6 h_a7 h_a8 h_a9 h_a10 h_a11 h_a12 h_a13 h_x5 h_x1 ab_l1
          intro X_r_15 r_15 hb h_r_15
          refine sz_along hb ?_ g_a1 h_f0_piled h_f0_clock h_f0_groups h_f0_wrong h_a6 h_a7 h_a8 h_a9 h_a10 h_a11 h_a12 h_a13 h_x5 h_x2 ab_l0
          intro X_r_16 r_16 hb h_r_16
          refine sz_ones hb ?_ h_r_15
          intro X_r_17 r_17 hb h_r_17
          refine sz_ones hb ?_ h_r_16
          intro X_r_18 r_18 hb h_r_18
          refine sz_ones hb ?_ (ab_andS h_r_15 h_r_16)
          intro X_r_19 r_19 hb h_r_19
          refine ab_letS hb (ab_addS h_x4 (ab_subS (ab_mulS h_r_17 h_r_18) h_r_19)) ?_
          intro X_x4_20 x4_20 hb h_x4_20
          refine ab_letS hb (ab_addS h_x5 ab_l1) ?_
          intro X_x5_21 x5_21 hb h_x5_21
          exact ih hb h_x4_20 h_x5_21
        · refine ab_letS hb (ab_addS h_x5 ab_l1) ?_
          intro X_x5_14 x5_14 hb h_x5_14
          exact ih hb h_x4 h_x5_14
noncomputable def bz_chains (k : Nat → Bool) (X_a1 M_a1 F_a1 S_a1 N_a1 X_f0_piled X_f0_clock X_f0_groups X_f0_wrong X_a6 X_a7 X_a8 X_a9 X_a10 X_a11 X_a12 X_a13 X_p0 X_p1 X_p2 : Nat) : Bool :=
  (bz_isType (fun X_r_1 => (ab_eq X_r_1 16 (k 15) (bz_isType (fun X_r_3 => (ab_eq X_r_3 16 (k 15) (ab_lt X_p2 16 (k 15) (ab_le X_p2 23 (bz_chains_32 k X_p0 X_p1 X_p2 X_f0_piled X_f0_clock X_f0_groups X_f0_wrong X_a1 M_a1 F_a1 S_a1 N_a1 X_a6 X_a7 X_a8 X_a9 X_a10 X_a11 X_a12 X_a13 200 16 16) (k 15))))) X_p1))) X_p0)
theorem sz_chains {e : Nat → Int32} {post : Int32 → Prop} {k : Nat → Bool} {X_a1 M_a1 F_a1 S_a1 N_a1 X_f0_piled X_f0_clock X_f0_groups X_f0_wrong X_a6 X_a7 X_a8 X_a9 X_a10 X_a11 X_a12 X_a13 X_p0 X_p1 X_p2 : Nat} {f0_op f0_piled f0_clock f0_groups f0_wrong p0 p1 p2 : Int32} {a1 a2 a3 a4 a5 a6 a7 a8 a9 a10 a11 a12 a13 : Nat → Int32} (hb : bz_chains k X_a1 M_a1 F_a1 S_a1 N_a1 X_f0_piled X_f0_clock X_f0_groups X_f0_wrong X_a6 X_a7 X_a8 X_a9 X_a10 X_a11 X_a12 X_a13 X_p0 X_p1 X_p2 = true) (hk : ∀ ⦃R : Nat⦄ ⦃r : Int32⦄, k R = true → ab_rv e R r → post r) (g_a1 : ab_rg e X_a1 M_a1 F_a1 S_a1 N_a1 f0_op a1 a2 a3 a4 a5) (h_f0_piled : ab_rv e X_f0_piled f0_piled) (h_f0_clock : ab_rv e X_f0_clock f0_clock) (h_f0_groups : ab_rv e X_f0_groups f0_groups) (h_f0_wrong : ab_rv e X_f0_wrong f0_wrong) (h_a6 : ab_ra e 12 X_a6 a6) (h_a7 : ab_ra e 12 X_a7 a7) (h_a8 : ab_ra e 12 X_a8 a8) (h_a9 : ab_ra e 12 X_a9 a9) (h_a10 : ab_ra e 12 X_a10 a10) (h_a11 : ab_ra e 12 X_a11 a11) (h_a12 : ab_ra e 12 X_a12 a12) (h_a13 : ab_ra e 12 X_a13 a13) (h_p0 : ab_rv e X_p0 p0) (h_p1 : ab_rv e X_p1 p1) (h_p2 : ab_rv e X_p2 p2) : wpX_chains post (f0_op, f0_piled, f0_clock, f0_groups, f0_wrong, a1, a2, a3, a4, a5, a6, a7, a8, a9, a10, a11, a12, a13) p0 p1 p2 := by
  unfold wpX_chains
  refine sz_isType hb ?_ h_p0
  intro X_r_1 r_1 hb h_r_1
  refine ab_eqS hb h_r_1 ab_l0 (fun hb => ?_) (fun hb => ?_)
  · exact hk hb ab_m1
  · refine sz_isType hb ?_ h_p1
    intro X_r_3 r_3 hb h_r_3
    refine ab_eqS hb h_r_3 ab_l0 (fun hb => ?_) (fun hb => ?_)
    · exact hk hb ab_m1
    · refine ab_ltS hb h_p2 ab_l0 (fun hb => ?_) (fun hb => ?_)
      · exact hk hb ab_m1
      · refine ab_leS hb h_p2 ab_l7 (fun hb => ?_) (fun hb => ?_)
        · exact ⟨200, sz_chains_32 hk h_p0 h_p1 h_p2 h_f0_piled h_f0_clock h_f0_groups h_f0_wrong g_a1 h_a6 h_a7 h_a8 h_a9 h_a10 h_a11 h_a12 h_a13 200 hb ab_l0 ab_l0⟩
        · exact hk hb ab_m1
noncomputable def bz_labels (k : Nat → Bool) (X_a1 M_a1 F_a1 S_a1 N_a1 X_f0_piled X_f0_clock X_f0_groups X_f0_wrong X_a6 X_a7 X_a8 X_a9 X_a10 X_a11 X_a12 X_a13 X_p0 : Nat) : Bool :=
  (bz_isNode (fun X_r_1 => (ab_eq X_r_1 16 (k 15) (bz_nodeAt (fun X_r_3 => (ab_vin 340 (ab_add X_r_3 17) (ab_str (ab_rdc X_a1 (ab_add X_r_3 17)) (fun R => k R)))) X_p0))) X_a1 M_a1 F_a1 S_a1 N_a1 X_f0_piled X_f0_clock X_f0_groups X_f0_wrong X_a6 X_a7 X_a8 X_a9 X_a10 X_a11 X_a12 X_a13 X_p0)
theorem sz_labels {e : Nat → Int32} {post : Int32 → Prop} {k : Nat → Bool} {X_a1 M_a1 F_a1 S_a1 N_a1 X_f0_piled X_f0_clock X_f0_groups X_f0_wrong X_a6 X_a7 X_a8 X_a9 X_a10 X_a11 X_a12 X_a13 X_p0 : Nat} {f0_op f0_piled f0_clock f0_groups f0_wrong p0 : Int32} {a1 a2 a3 a4 a5 a6 a7 a8 a9 a10 a11 a12 a13 : Nat → Int32} (hb : bz_labels k X_a1 M_a1 F_a1 S_a1 N_a1 X_f0_piled X_f0_clock X_f0_groups X_f0_wrong X_a6 X_a7 X_a8 X_a9 X_a10 X_a11 X_a12 X_a13 X_p0 = true) (hk : ∀ ⦃R : Nat⦄ ⦃r : Int32⦄, k R = true → ab_rv e R r → post r) (g_a1 : ab_rg e X_a1 M_a1 F_a1 S_a1 N_a1 f0_op a1 a2 a3 a4 a5) (h_f0_piled : ab_rv e X_f0_piled f0_piled) (h_f0_clock : ab_rv e X_f0_clock f0_clock) (h_f0_groups : ab_rv e X_f0_groups f0_groups) (h_f0_wrong : ab_rv e X_f0_wrong f0_wrong) (h_a6 : ab_ra e 12 X_a6 a6) (h_a7 : ab_ra e 12 X_a7 a7) (h_a8 : ab_ra e 12 X_a8 a8) (h_a9 : ab_ra e 12 X_a9 a9) (h_a10 : ab_ra e 12 X_a10 a10) (h_a11 : ab_ra e 12 X_a11 a11) (h_a12 : ab_ra e 12 X_a12 a12) (h_a13 : ab_ra e 12 X_a13 a13) (h_p0 : ab_rv e X_p0 p0) : wpX_labels post (f0_op, f0_piled, f0_clock, f0_groups, f0_wrong, a1, a2, a3, a4, a5, a6, a7, a8, a9, a10, a11, a12, a13) p0 := by
  unfold wpX_labels
  refine sz_isNode hb ?_ g_a1 h_f0_piled h_f0_clock h_f0_groups h_f0_wrong h_a6 h_a7 h_a8 h_a9 h_a10 h_a11 h_a12 h_a13 h_p0
  intro X_r_1 r_1 hb h_r_1
  refine ab_eqS hb h_r_1 ab_l0 (fun hb => ?_) (fun hb => ?_)
  · exact hk hb ab_m1
  · refine sz_nodeAt hb ?_ h_p0
    intro X_r_3 r_3 hb h_r_3
    refine ab_vinS hb (by decide) (ab_addS h_r_3 ab_l1) (fun hb => ?_)
    have hb := ab_strS hb
    exact hk hb (ab_rdcS g_a1.1 (ab_addS h_r_3 ab_l1))
noncomputable def bz_value (k : Nat → Bool) (X_a1 M_a1 F_a1 S_a1 N_a1 X_f0_piled X_f0_clock X_f0_groups X_f0_wrong X_a6 X_a7 X_a8 X_a9 X_a10 X_a11 X_a12 X_a13 X_p0 : Nat) : Bool :=
  (bz_isNode (fun X_r_1 => (ab_eq X_r_1 16 (k 16) (bz_nodeAt (fun X_r_3 => (ab_vin 340 (ab_add X_r_3 18) (ab_str (ab_rdc X_a1 (ab_add X_r_3 18)) (fun R => k R)))) X_p0))) X_a1 M_a1 F_a1 S_a1 N_a1 X_f0_piled X_f0_clock X_f0_groups X_f0_wrong X_a6 X_a7 X_a8 X_a9 X_a10 X_a11 X_a12 X_a13 X_p0)
theorem sz_value {e : Nat → Int32} {post : Int32 → Prop} {k : Nat → Bool} {X_a1 M_a1 F_a1 S_a1 N_a1 X_f0_piled X_f0_clock X_f0_groups X_f0_wrong X_a6 X_a7 X_a8 X_a9 X_a10 X_a11 X_a12 X_a13 X_p0 : Nat} {f0_op f0_piled f0_clock f0_groups f0_wrong p0 : Int32} {a1 a2 a3 a4 a5 a6 a7 a8 a9 a10 a11 a12 a13 : Nat → Int32} (hb : bz_value k X_a1 M_a1 F_a1 S_a1 N_a1 X_f0_piled X_f0_clock X_f0_groups X_f0_wrong X_a6 X_a7 X_a8 X_a9 X_a10 X_a11 X_a12 X_a13 X_p0 = true) (hk : ∀ ⦃R : Nat⦄ ⦃r : Int32⦄, k R = true → ab_rv e R r → post r) (g_a1 : ab_rg e X_a1 M_a1 F_a1 S_a1 N_a1 f0_op a1 a2 a3 a4 a5) (h_f0_piled : ab_rv e X_f0_piled f0_piled) (h_f0_clock : ab_rv e X_f0_clock f0_clock) (h_f0_groups : ab_rv e X_f0_groups f0_groups) (h_f0_wrong : ab_rv e X_f0_wrong f0_wrong) (h_a6 : ab_ra e 12 X_a6 a6) (h_a7 : ab_ra e 12 X_a7 a7) (h_a8 : ab_ra e 12 X_a8 a8) (h_a9 : ab_ra e 12 X_a9 a9) (h_a10 : ab_ra e 12 X_a10 a10) (h_a11 : ab_ra e 12 X_a11 a11) (h_a12 : ab_ra e 12 X_a12 a12) (h_a13 : ab_ra e 12 X_a13 a13) (h_p0 : ab_rv e X_p0 p0) : wpX_value post (f0_op, f0_piled, f0_clock, f0_groups, f0_wrong, a1, a2, a3, a4, a5, a6, a7, a8, a9, a10, a11, a12, a13) p0 := by
  unfold wpX_value
  refine sz_isNode hb ?_ g_a1 h_f0_piled h_f0_clock h_f0_groups h_f0_wrong h_a6 h_a7 h_a8 h_a9 h_a10 h_a11 h_a12 h_a13 h_p0
  intro X_r_1 r_1 hb h_r_1
  refine ab_eqS hb h_r_1 ab_l0 (fun hb => ?_) (fun hb => ?_)
  · exact hk hb ab_l0
  · refine sz_nodeAt hb ?_ h_p0
    intro X_r_3 r_3 hb h_r_3
    refine ab_vinS hb (by decide) (ab_addS h_r_3 ab_l2) (fun hb => ?_)
    have hb := ab_strS hb
    exact hk hb (ab_rdcS g_a1.1 (ab_addS h_r_3 ab_l2))
noncomputable def bz_look (k : Nat → Bool) (X_a1 M_a1 F_a1 S_a1 N_a1 X_f0_piled X_f0_clock X_f0_groups X_f0_wrong X_a6 X_a7 X_a8 X_a9 X_a10 X_a11 X_a12 X_a13 X_p0 X_p1 : Nat) : Bool :=
  (bz_isArrow (fun X_r_1 => (ab_eq X_r_1 16 (k 15) (ab_lt X_p1 16 (k 15) (ab_le X_p1 19 (bz_arrowCell (fun X_r_5 => (ab_vin 340 (ab_add (ab_add X_r_5 17) X_p1) (ab_str (ab_rdc X_a1 (ab_add (ab_add X_r_5 17) X_p1)) (fun R => k R)))) X_p0) (k 15))))) X_a1 M_a1 F_a1 S_a1 N_a1 X_f0_piled X_f0_clock X_f0_groups X_f0_wrong X_a6 X_a7 X_a8 X_a9 X_a10 X_a11 X_a12 X_a13 X_p0)
theorem sz_look {e : Nat → Int32} {post : Int32 → Prop} {k : Nat → Bool} {X_a1 M_a1 F_a1 S_a1 N_a1 X_f0_piled X_f0_clock X_f0_groups X_f0_wrong X_a6 X_a7 X_a8 X_a9 X_a10 X_a11 X_a12 X_a13 X_p0 X_p1 : Nat} {f0_op f0_piled f0_clock f0_groups f0_wrong p0 p1 : Int32} {a1 a2 a3 a4 a5 a6 a7 a8 a9 a10 a11 a12 a13 : Nat → Int32} (hb : bz_look k X_a1 M_a1 F_a1 S_a1 N_a1 X_f0_piled X_f0_clock X_f0_groups X_f0_wrong X_a6 X_a7 X_a8 X_a9 X_a10 X_a11 X_a12 X_a13 X_p0 X_p1 = true) (hk : ∀ ⦃R : Nat⦄ ⦃r : Int32⦄, k R = true → ab_rv e R r → post r) (g_a1 : ab_rg e X_a1 M_a1 F_a1 S_a1 N_a1 f0_op a1 a2 a3 a4 a5) (h_f0_piled : ab_rv e X_f0_piled f0_piled) (h_f0_clock : ab_rv e X_f0_clock f0_clock) (h_f0_groups : ab_rv e X_f0_groups f0_groups) (h_f0_wrong : ab_rv e X_f0_wrong f0_wrong) (h_a6 : ab_ra e 12 X_a6 a6) (h_a7 : ab_ra e 12 X_a7 a7) (h_a8 : ab_ra e 12 X_a8 a8) (h_a9 : ab_ra e 12 X_a9 a9) (h_a10 : ab_ra e 12 X_a10 a10) (h_a11 : ab_ra e 12 X_a11 a11) (h_a12 : ab_ra e 12 X_a12 a12) (h_a13 : ab_ra e 12 X_a13 a13) (h_p0 : ab_rv e X_p0 p0) (h_p1 : ab_rv e X_p1 p1) : wpX_look post (f0_op, f0_piled, f0_clock, f0_groups, f0_wrong, a1, a2, a3, a4, a5, a6, a7, a8, a9, a10, a11, a12, a13) p0 p1 := by
  unfold wpX_look
  refine sz_isArrow hb ?_ g_a1 h_f0_piled h_f0_clock h_f0_groups h_f0_wrong h_a6 h_a7 h_a8 h_a9 h_a10 h_a11 h_a12 h_a13 h_p0
  intro X_r_1 r_1 hb h_r_1
  refine ab_eqS hb h_r_1 ab_l0 (fun hb => ?_) (fun hb => ?_)
  · exact hk hb ab_m1
  · refine ab_ltS hb h_p1 ab_l0 (fun hb => ?_) (fun hb => ?_)
    · exact hk hb ab_m1
    · refine ab_leS hb h_p1 ab_l3 (fun hb => ?_) (fun hb => ?_)
      · refine sz_arrowCell hb ?_ h_p0
        intro X_r_5 r_5 hb h_r_5
        refine ab_vinS hb (by decide) (ab_addS (ab_addS h_r_5 ab_l1) h_p1) (fun hb => ?_)
        have hb := ab_strS hb
        exact hk hb (ab_rdcS g_a1.1 (ab_addS (ab_addS h_r_5 ab_l1) h_p1))
      · exact hk hb ab_m1
noncomputable def bz_goOn_94 (k : Nat → Nat → Nat → Nat → Nat → Nat → Nat → Nat → Nat → Nat → Nat → Nat → Nat → Nat → Nat → Nat → Nat → Nat → Bool) (J19 : Nat → Nat → Nat → Nat → Nat → Nat → Nat → Nat → Nat → Nat → Nat → Nat → Nat → Nat → Nat → Nat → Bool) (X_x1 X_x2 X_x4 X_x5 X_x6 X_f0_piled X_f0_clock X_f0_groups X_f0_wrong X_a1 M_a1 F_a1 S_a1 N_a1 X_a6 X_a7 X_a8 X_a9 X_a10 X_a11 X_a12 X_a13 : Nat) : Bool :=
  (bz_arrowCell (fun X_r_11 => (ab_vin 340 (ab_add X_r_11 21) (ab_str (ab_rdc X_a1 (ab_add X_r_11 21)) (fun X_x5_13 => (ab_str (ab_add X_x6 17) (fun X_x6_14 => (J19 X_x4 X_x5_13 X_x6_14 X_a1 M_a1 F_a1 S_a1 N_a1 X_a6 X_a7 X_a8 X_a9 X_a10 X_a11 X_a12 X_a13))))))) X_x5)
theorem sz_goOn_94 {e : Nat → Int32} {post : Int32 → St2 → Prop} {k : Nat → Nat → Nat → Nat → Nat → Nat → Nat → Nat → Nat → Nat → Nat → Nat → Nat → Nat → Nat → Nat → Nat → Nat → Bool} {J19 : Nat → Nat → Nat → Nat → Nat → Nat → Nat → Nat → Nat → Nat → Nat → Nat → Nat → Nat → Nat → Nat → Bool} {CJ19 : Int32 → Int32 → Int32 → (Nat → Int32) → (Nat → Int32) → (Nat → Int32) → (Nat → Int32) → (Nat → Int32) → (Nat → Int32) → (Nat → Int32) → (Nat → Int32) → (Nat → Int32) → (Nat → Int32) → (Nat → Int32) → (Nat → Int32) → (Nat → Int32) → Prop} {X_x1 X_x2 X_x4 X_x5 X_x6 X_f0_piled X_f0_clock X_f0_groups X_f0_wrong X_a1 M_a1 F_a1 S_a1 N_a1 X_a6 X_a7 X_a8 X_a9 X_a10 X_a11 X_a12 X_a13 : Nat} {x1 x2 x4 x5 x6 f0_op f0_piled f0_clock f0_groups f0_wrong : Int32} {a1 a2 a3 a4 a5 a6 a7 a8 a9 a10 a11 a12 a13 : Nat → Int32} (hb : bz_goOn_94 k J19 X_x1 X_x2 X_x4 X_x5 X_x6 X_f0_piled X_f0_clock X_f0_groups X_f0_wrong X_a1 M_a1 F_a1 S_a1 N_a1 X_a6 X_a7 X_a8 X_a9 X_a10 X_a11 X_a12 X_a13 = true) (hk : ∀ ⦃R A M F S N P C G W B6 B7 B8 B9 B10 B11 B12 B13 : Nat⦄ ⦃r op pi cl gr wr : Int32⦄ ⦃c1 c2 c3 c4 c5 c6 c7 c8 c9 c10 c11 c12 c13 : Nat → Int32⦄, k R A M F S N P C G W B6 B7 B8 B9 B10 B11 B12 B13 = true → ab_rv e R r → ab_rg e A M F S N op c1 c2 c3 c4 c5 → ab_rv e P pi → ab_rv e C cl → ab_rv e G gr → ab_rv e W wr → ab_ra e 12 B6 c6 → ab_ra e 12 B7 c7 → ab_ra e 12 B8 c8 → ab_ra e 12 B9 c9 → ab_ra e 12 B10 c10 → ab_ra e 12 B11 c11 → ab_ra e 12 B12 c12 → ab_ra e 12 B13 c13 → post r (op, pi, cl, gr, wr, c1, c2, c3, c4, c5, c6, c7, c8, c9, c10, c11, c12, c13)) (hJ19 : ∀ ⦃X_x4 X_x5 X_x6 X_a1 M_a1 F_a1 S_a1 N_a1 X_a6 X_a7 X_a8 X_a9 X_a10 X_a11 X_a12 X_a13 : Nat⦄ ⦃x4 x5 x6 : Int32⦄ ⦃a1 a2 a3 a4 a5 a6 a7 a8 a9 a10 a11 a12 a13 : Nat → Int32⦄, J19 X_x4 X_x5 X_x6 X_a1 M_a1 F_a1 S_a1 N_a1 X_a6 X_a7 X_a8 X_a9 X_a10 X_a11 X_a12 X_a13 = true → ab_rv e X_x4 x4 → ab_rv e X_x5 x5 → ab_rv e X_x6 x6 → ab_rg e X_a1 M_a1 F_a1 S_a1 N_a1 f0_op a1 a2 a3 a4 a5 → ab_ra e 12 X_a6 a6 → ab_ra e 12 X_a7 a7 → ab_ra e 12 X_a8 a8 → ab_ra e 12 X_a9 a9 → ab_ra e 12 X_a10 a10 → ab_ra e 12 X_a11 a11 → ab_ra e 12 X_a12 a12 → ab_ra e 12 X_a13 a13 → CJ19 x4 x5 x6 a1 a2 a3 a4 a5 a6 a7 a8 a9 a10 a11 a12 a13) (h_x1 : ab_rv e X_x1 x1) (h_x2 : ab_rv e X_x2 x2) (h_x4 : ab_rv e X_x4 x4) (h_x5 : ab_rv e X_x5 x5) (h_x6 : ab_rv e X_x6 x6) (h_f0_piled : ab_rv e X_f0_piled f0_piled) (h_f0_clock : ab_rv e X_f0_clock f0_clock) (h_f0_groups : ab_rv e X_f0_groups f0_groups) (h_f0_wrong : ab_rv e X_f0_wrong f0_wrong) (g_a1 : ab_rg e X_a1 M_a1 F_a1 S_a1 N_a1 f0_op a1 a2 a3 a4 a5) (h_a6 : ab_ra e 12 X_a6 a6) (h_a7 : ab_ra e 12 X_a7 a7) (h_a8 : ab_ra e 12 X_a8 a8) (h_a9 : ab_ra e 12 X_a9 a9) (h_a10 : ab_ra e 12 X_a10 a10) (h_a11 : ab_ra e 12 X_a11 a11) (h_a12 : ab_ra e 12 X_a12 a12) (h_a13 : ab_ra e 12 X_a13 a13) : wX_goOn_94 post CJ19 x1 x2 x4 x5 x6 f0_op f0_piled f0_clock f0_groups f0_wrong a1 a2 a3 a4 a5 a6 a7 a8 a9 a10 a11 a12 a13 := by
  unfold wX_goOn_94
  refine sz_arrowCell hb ?_ h_x5
  intro X_r_11 r_11 hb h_r_11
  refine ab_vinS hb (by decide) (ab_addS h_r_11 ab_l5) (fun hb => ?_)
  refine ab_letS hb (ab_rdcS g_a1.1 (ab_addS h_r_11 ab_l5)) ?_
  intro X_x5_13 x5_13 hb h_x5_13
  refine ab_letS hb (ab_addS h_x6 ab_l1) ?_
  intro X_x6_14 x6_14 hb h_x6_14
  exact hJ19 hb h_x4 h_x5_13 h_x6_14 g_a1 h_a6 h_a7 h_a8 h_a9 h_a10 h_a11 h_a12 h_a13
noncomputable def bz_goOn_19 (k : Nat → Nat → Nat → Nat → Nat → Nat → Nat → Nat → Nat → Nat → Nat → Nat → Nat → Nat → Nat → Nat → Nat → Nat → Bool) (X_x1 X_x2 X_f0_piled X_f0_clock X_f0_groups X_f0_wrong : Nat) (n : Nat) : Nat → Nat → Nat → Nat → Nat → Nat → Nat → Nat → Nat → Nat → Nat → Nat → Nat → Nat → Nat → Nat → Bool :=
  Nat.rec (motive := fun _ => Nat → Nat → Nat → Nat → Nat → Nat → Nat → Nat → Nat → Nat → Nat → Nat → Nat → Nat → Nat → Nat → Bool) (fun _ _ _ _ _ _ _ _ _ _ _ _ _ _ _ _ => false) (fun _ ih => fun X_x4 X_x5 X_x6 X_a1 M_a1 F_a1 S_a1 N_a1 X_a6 X_a7 X_a8 X_a9 X_a10 X_a11 X_a12 X_a13 => (ab_le 40 X_x6 (k X_x4 X_a1 M_a1 F_a1 S_a1 N_a1 X_f0_piled X_f0_clock X_f0_groups X_f0_wrong X_a6 X_a7 X_a8 X_a9 X_a10 X_a11 X_a12 X_a13) (ab_lt X_x5 16 (k X_x4 X_a1 M_a1 F_a1 S_a1 N_a1 X_f0_piled X_f0_clock X_f0_groups X_f0_wrong X_a6 X_a7 X_a8 X_a9 X_a10 X_a11 X_a12 X_a13) (bz_arrowCell (fun X_r_6 => (ab_vin 340 (ab_add (ab_add X_r_6 17) 17) (ab_str (ab_rdc X_a1 (ab_add (ab_add X_r_6 17) 17)) (fun X_x7_8 => (bz_isOf (fun X_r_9 => (ab_eq X_r_9 16 (bz_goOn_94 k ih X_x1 X_x2 X_x4 X_x5 X_x6 X_f0_piled X_f0_clock X_f0_groups X_f0_wrong X_a1 M_a1 F_a1 S_a1 N_a1 X_a6 X_a7 X_a8 X_a9 X_a10 X_a11 X_a12 X_a13) (ab_vin 12 X_x7_8 (ab_le 16 (ab_rd 12 X_a6 X_x7_8) (bz_goOn_94 k ih X_x1 X_x2 X_x4 X_x5 X_x6 X_f0_piled X_f0_clock X_f0_groups X_f0_wrong X_a1 M_a1 F_a1 S_a1 N_a1 X_a6 X_a7 X_a8 X_a9 X_a10 X_a11 X_a12 X_a13) (ab_vin 12 X_x1 (ab_up 12 X_a6 X_x7_8 (ab_add (ab_rd 12 X_a6 X_x1) 17) (fun X_a6_19 => (ab_up 12 X_a8 X_x4 X_x7_8 (fun X_a8_21 => (ab_str (ab_add X_x4 17) (fun X_x4_22 => (bz_goOn_94 k ih X_x1 X_x2 X_x4_22 X_x5 X_x6 X_f0_piled X_f0_clock X_f0_groups X_f0_wrong X_a1 M_a1 F_a1 S_a1 N_a1 X_a6_19 X_a7 X_a8_21 X_a9 X_a10 X_a11 X_a12 X_a13)))))))))))) X_a1 M_a1 F_a1 S_a1 N_a1 X_f0_piled X_f0_clock X_f0_groups X_f0_wrong X_a6 X_a7 X_a8 X_a9 X_a10 X_a11 X_a12 X_a13 X_x5 X_x2))))) X_x5)))) n
theorem sz_goOn_19 {e : Nat → Int32} {post : Int32 → St2 → Prop} {k : Nat → Nat → Nat → Nat → Nat → Nat → Nat → Nat → Nat → Nat → Nat → Nat → Nat → Nat → Nat → Nat → Nat → Nat → Bool} {X_x1 X_x2 X_f0_piled X_f0_clock X_f0_groups X_f0_wrong : Nat} {x1 x2 f0_op f0_piled f0_clock f0_groups f0_wrong : Int32} (hk : ∀ ⦃R A M F S N P C G W B6 B7 B8 B9 B10 B11 B12 B13 : Nat⦄ ⦃r op pi cl gr wr : Int32⦄ ⦃c1 c2 c3 c4 c5 c6 c7 c8 c9 c10 c11 c12 c13 : Nat → Int32⦄, k R A M F S N P C G W B6 B7 B8 B9 B10 B11 B12 B13 = true → ab_rv e R r → ab_rg e A M F S N op c1 c2 c3 c4 c5 → ab_rv e P pi → ab_rv e C cl → ab_rv e G gr → ab_rv e W wr → ab_ra e 12 B6 c6 → ab_ra e 12 B7 c7 → ab_ra e 12 B8 c8 → ab_ra e 12 B9 c9 → ab_ra e 12 B10 c10 → ab_ra e 12 B11 c11 → ab_ra e 12 B12 c12 → ab_ra e 12 B13 c13 → post r (op, pi, cl, gr, wr, c1, c2, c3, c4, c5, c6, c7, c8, c9, c10, c11, c12, c13)) (h_x1 : ab_rv e X_x1 x1) (h_x2 : ab_rv e X_x2 x2) (h_f0_piled : ab_rv e X_f0_piled f0_piled) (h_f0_clock : ab_rv e X_f0_clock f0_clock) (h_f0_groups : ab_rv e X_f0_groups f0_groups) (h_f0_wrong : ab_rv e X_f0_wrong f0_wrong) : ∀ (n : Nat) ⦃X_x4 X_x5 X_x6 X_a1 M_a1 F_a1 S_a1 N_a1 X_a6 X_a7 X_a8 X_a9 X_a10 X_a11 X_a12 X_a13 : Nat⦄ ⦃x4 x5 x6 : Int32⦄ ⦃a1 a2 a3 a4 a5 a6 a7 a8 a9 a10 a11 a12 a13 : Nat → Int32⦄, bz_goOn_19 k X_x1 X_x2 X_f0_piled X_f0_clock X_f0_groups X_f0_wrong n X_x4 X_x5 X_x6 X_a1 M_a1 F_a1 S_a1 N_a1 X_a6 X_a7 X_a8 X_a9 X_a10 X_a11 X_a12 X_a13 = true → ab_rv e X_x4 x4 → ab_rv e X_x5 x5 → ab_rv e X_x6 x6 → ab_rg e X_a1 M_a1 F_a1 S_a1 N_a1 f0_op a1 a2 a3 a4 a5 → ab_ra e 12 X_a6 a6 → ab_ra e 12 X_a7 a7 → ab_ra e 12 X_a8 a8 → ab_ra e 12 X_a9 a9 → ab_ra e 12 X_a10 a10 → ab_ra e 12 X_a11 a11 → ab_ra e 12 X_a12 a12 → ab_ra e 12 X_a13 a13 → wX_goOn_19 post x1 x2 f0_op f0_piled f0_clock f0_groups f0_wrong n x4 x5 x6 a1 a2 a3 a4 a5 a6 a7 a8 a9 a10 a11 a12 a13 := by
  intro n
  induction n with
  | zero =>
    intro X_x4 X_x5 X_x6 X_a1 M_a1 F_a1 S_a1 N_a1 X_a6 X_a7 X_a8 X_a9 X_a10 X_a11 X_a12 X_a13 x4 x5 x6 a1 a2 a3 a4 a5 a6 a7 a8 a9 a10 a11 a12 a13 hb h_x4 h_x5 h_x6 g_a1 h_a6 h_a7 h_a8 h_a9 h_a10 h_a11 h_a12 h_a13
    exact absurd (show false = true from hb) (by decide)
  | succ n ih =>
    intro X_x4 X_x5 X_x6 X_a1 M_a1 F_a1 S_a1 N_a1 X_a6 X_a7 X_a8 X_a9 X_a10 X_a11 X_a12 X_a13 x4 x5 x6 a1 a2 a3 a4 a5 a6 a7 a8 a9 a10 a11 a12 a13 hb h_x4 h_x5 h_x6 g_a1 h_a6 h_a7 h_a8 h_a9 h_a10 h_a11 h_a12 h_a13
    refine ab_leS hb ab_l24 h_x6 (fun hb => ?_) (fun hb => ?_)
    · exact hk hb h_x4 g_a1 h_f0_piled h_f0_clock h_f0_groups h_f0_wrong h_a6 h_a7 h_a8 h_a9 h_a10 h_a11 h_a12 h_a13
    · refine ab_ltS hb h_x5 ab_l0 (fun hb => ?_) (fun hb => ?_)
      · exact hk hb h_x4 g_a1 h_f0_piled h_f0_clock h_f0_groups h_f0_wrong h_a6 h_a7 h_a8 h_a9 h_a10 h_a11 h_a12 h_a13
      · refine sz_arrowCell hb ?_ h_x5
        intro X_r_6 r_6 hb h_r_6
        refine ab_vinS hb (by decide) (ab_addS (ab_addS h_r_6 ab_l1) ab_l1) (fun hb => ?_)
        refine ab_letS hb (ab_rdcS g_a1.1 (ab_addS (ab_addS h_r_6 ab_l1) ab_l1)) ?_
        intro X_x7_8 x7_8 hb h_x7_8
        refine sz_isOf hb ?_ g_a1 h_f0_piled h_f0_clock h_f0_groups h_f0_wrong h_a6 h_a7 h_a8 h_a9 h_a10 h_a11 h_a12 h_a13 h_x5 h_x2
        intro X_r_9 r_9 hb h_r_9
        refine ab_eqS hb h_r_9 ab_l0 (fun hb => ?_) (fun hb => ?_)
        · exact sz_goOn_94 hb hk ih h_x1 h_x2 h_x4 h_x5 h_x6 h_f0_piled h_f0_clock h_f0_groups h_f0_wrong g_a1 h_a6 h_a7 h_a8 h_a9 h_a10 h_a11 h_a12 h_a13
        · refine ab_vinS hb (by decide) h_x7_8 (fun hb => ?_)
          refine ab_leS hb ab_l0 (ab_rdS (by decide) h_a6 h_x7_8) (fun hb => ?_) (fun hb => ?_)
          · exact sz_goOn_94 hb hk ih h_x1 h_x2 h_x4 h_x5 h_x6 h_f0_piled h_f0_clock h_f0_groups h_f0_wrong g_a1 h_a6 h_a7 h_a8 h_a9 h_a10 h_a11 h_a12 h_a13
          · refine ab_vinS hb (by decide) h_x1 (fun hb => ?_)
            refine ab_upS hb (by decide) h_a6 h_x7_8 (ab_addS (ab_rdS (by decide) h_a6 h_x1) ab_l1) ?_
            intro X_a6_19 a6_19 hb h_a6_19
            refine ab_upS hb (by decide) h_a8 h_x4 h_x7_8 ?_
            intro X_a8_21 a8_21 hb h_a8_21
            refine ab_letS hb (ab_addS h_x4 ab_l1) ?_
            intro X_x4_22 x4_22 hb h_x4_22
            exact sz_goOn_94 hb hk ih h_x1 h_x2 h_x4_22 h_x5 h_x6 h_f0_piled h_f0_clock h_f0_groups h_f0_wrong g_a1 h_a6_19 h_a7 h_a8_21 h_a9 h_a10 h_a11 h_a12 h_a13
noncomputable def bz_goOn (k : Nat → Nat → Nat → Nat → Nat → Nat → Nat → Nat → Nat → Nat → Nat → Nat → Nat → Nat → Nat → Nat → Nat → Nat → Bool) (X_a1 M_a1 F_a1 S_a1 N_a1 X_f0_piled X_f0_clock X_f0_groups X_f0_wrong X_a6 X_a7 X_a8 X_a9 X_a10 X_a11 X_a12 X_a13 X_p0 X_p1 X_p2 : Nat) : Bool :=
  (bz_nodeAt (fun X_r_1 => (ab_vin 340 (ab_add X_r_1 19) (ab_str (ab_rdc X_a1 (ab_add X_r_1 19)) (fun X_x5_3 => (bz_goOn_19 k X_p0 X_p1 X_f0_piled X_f0_clock X_f0_groups X_f0_wrong 200 X_p2 X_x5_3 16 X_a1 M_a1 F_a1 S_a1 N_a1 X_a6 X_a7 X_a8 X_a9 X_a10 X_a11 X_a12 X_a13))))) X_p0)
theorem sz_goOn {e : Nat → Int32} {post : Int32 → St2 → Prop} {k : Nat → Nat → Nat → Nat → Nat → Nat → Nat → Nat → Nat → Nat → Nat → Nat → Nat → Nat → Nat → Nat → Nat → Nat → Bool} {X_a1 M_a1 F_a1 S_a1 N_a1 X_f0_piled X_f0_clock X_f0_groups X_f0_wrong X_a6 X_a7 X_a8 X_a9 X_a10 X_a11 X_a12 X_a13 X_p0 X_p1 X_p2 : Nat} {f0_op f0_piled f0_clock f0_groups f0_wrong p0 p1 p2 : Int32} {a1 a2 a3 a4 a5 a6 a7 a8 a9 a10 a11 a12 a13 : Nat → Int32} (hb : bz_goOn k X_a1 M_a1 F_a1 S_a1 N_a1 X_f0_piled X_f0_clock X_f0_groups X_f0_wrong X_a6 X_a7 X_a8 X_a9 X_a10 X_a11 X_a12 X_a13 X_p0 X_p1 X_p2 = true) (hk : ∀ ⦃R A M F S N P C G W B6 B7 B8 B9 B10 B11 B12 B13 : Nat⦄ ⦃r op pi cl gr wr : Int32⦄ ⦃c1 c2 c3 c4 c5 c6 c7 c8 c9 c10 c11 c12 c13 : Nat → Int32⦄, k R A M F S N P C G W B6 B7 B8 B9 B10 B11 B12 B13 = true → ab_rv e R r → ab_rg e A M F S N op c1 c2 c3 c4 c5 → ab_rv e P pi → ab_rv e C cl → ab_rv e G gr → ab_rv e W wr → ab_ra e 12 B6 c6 → ab_ra e 12 B7 c7 → ab_ra e 12 B8 c8 → ab_ra e 12 B9 c9 → ab_ra e 12 B10 c10 → ab_ra e 12 B11 c11 → ab_ra e 12 B12 c12 → ab_ra e 12 B13 c13 → post r (op, pi, cl, gr, wr, c1, c2, c3, c4, c5, c6, c7, c8, c9, c10, c11, c12, c13)) (g_a1 : ab_rg e X_a1 M_a1 F_a1 S_a1 N_a1 f0_op a1 a2 a3 a4 a5) (h_f0_piled : ab_rv e X_f0_piled f0_piled) (h_f0_clock : ab_rv e X_f0_clock f0_clock) (h_f0_groups : ab_rv e X_f0_groups f0_groups) (h_f0_wrong : ab_rv e X_f0_wrong f0_wrong) (h_a6 : ab_ra e 12 X_a6 a6) (h_a7 : ab_ra e 12 X_a7 a7) (h_a8 : ab_ra e 12 X_a8 a8) (h_a9 : ab_ra e 12 X_a9 a9) (h_a10 : ab_ra e 12 X_a10 a10) (h_a11 : ab_ra e 12 X_a11 a11) (h_a12 : ab_ra e 12 X_a12 a12) (h_a13 : ab_ra e 12 X_a13 a13) (h_p0 : ab_rv e X_p0 p0) (h_p1 : ab_rv e X_p1 p1) (h_p2 : ab_rv e X_p2 p2) : wpX_goOn post (f0_op, f0_piled, f0_clock, f0_groups, f0_wrong, a1, a2, a3, a4, a5, a6, a7, a8, a9, a10, a11, a12, a13) p0 p1 p2 := by
  unfold wpX_goOn
  refine sz_nodeAt hb ?_ h_p0
  intro X_r_1 r_1 hb h_r_1
  refine ab_vinS hb (by decide) (ab_addS h_r_1 ab_l3) (fun hb => ?_)
  refine ab_letS hb (ab_rdcS g_a1.1 (ab_addS h_r_1 ab_l3)) ?_
  intro X_x5_3 x5_3 hb h_x5_3
  exact ⟨200, sz_goOn_19 hk h_p0 h_p1 h_f0_piled h_f0_clock h_f0_groups h_f0_wrong 200 hb h_p2 h_x5_3 ab_l0 g_a1 h_a6 h_a7 h_a8 h_a9 h_a10 h_a11 h_a12 h_a13⟩
noncomputable def bz_distance_63 (k : Nat → Nat → Nat → Nat → Nat → Nat → Nat → Nat → Nat → Nat → Nat → Nat → Nat → Nat → Nat → Nat → Nat → Nat → Bool) (X_x1 X_x2 : Nat) (n : Nat) : Nat → Nat → Nat → Nat → Nat → Nat → Nat → Nat → Nat → Nat → Nat → Nat → Nat → Nat → Nat → Nat → Nat → Nat → Nat → Bool :=
  Nat.rec (motive := fun _ => Nat → Nat → Nat → Nat → Nat → Nat → Nat → Nat → Nat → Nat → Nat → Nat → Nat → Nat → Nat → Nat → Nat → Nat → Nat → Bool) (fun _ _ _ _ _ _ _ _ _ _ _ _ _ _ _ _ _ _ _ => false) (fun _ ih => fun X_x3 X_x4 X_f0_piled X_f0_clock X_f0_groups X_f0_wrong X_a1 M_a1 F_a1 S_a1 N_a1 X_a6 X_a7 X_a8 X_a9 X_a10 X_a11 X_a12 X_a13 => (ab_le X_x3 X_x4 (ab_vin 12 (ab_sub X_x1 (ab_mul (ab_div X_x1 28) 28)) (ab_str (ab_rd 12 X_a6 (ab_sub X_x1 (ab_mul (ab_div X_x1 28) 28))) (fun X_x4_15 => (ab_le 16 X_x4_15 (k X_x4_15 X_a1 M_a1 F_a1 S_a1 N_a1 X_f0_piled X_f0_clock X_f0_groups X_f0_wrong X_a6 X_a7 X_a8 X_a9 X_a10 X_a11 X_a12 X_a13) (k 14 X_a1 M_a1 F_a1 S_a1 N_a1 X_f0_piled X_f0_clock X_f0_groups X_f0_wrong X_a6 X_a7 X_a8 X_a9 X_a10 X_a11 X_a12 X_a13))))) (ab_vin 12 X_x4 (bz_goOn (fun X_r_18 X_am791_26 M_am791_26 F_am791_26 S_am791_26 N_am791_26 X_f0_piled_20 X_f0_clock_21 X_f0_groups_22 X_f0_wrong_23 X_am796_41 X_am797_44 X_am798_47 X_am799_50 X_am7910_53 X_am7911_56 X_am7912_59 X_am7913_62 => (ab_str (ab_add X_x4 17) (fun X_x4_63 => (ih X_r_18 X_x4_63 X_f0_piled_20 X_f0_clock_21 X_f0_groups_22 X_f0_wrong_23 X_am791_26 M_am791_26 F_am791_26 S_am791_26 N_am791_26 X_am796_41 X_am797_44 X_am798_47 X_am799_50 X_am7910_53 X_am7911_56 X_am7912_59 X_am7913_62)))) X_a1 M_a1 F_a1 S_a1 N_a1 X_f0_piled X_f0_clock X_f0_groups X_f0_wrong X_a6 X_a7 X_a8 X_a9 X_a10 X_a11 X_a12 X_a13 (ab_rd 12 X_a8 X_x4) X_x2 X_x3)))) n
theorem sz_distance_63 {e : Nat → Int32} {post : Int32 → St2 → Prop} {k : Nat → Nat → Nat → Nat → Nat → Nat → Nat → Nat → Nat → Nat → Nat → Nat → Nat → Nat → Nat → Nat → Nat → Nat → Bool} {X_x1 X_x2 : Nat} {x1 x2 : Int32} (hk : ∀ ⦃R A M F S N P C G W B6 B7 B8 B9 B10 B11 B12 B13 : Nat⦄ ⦃r op pi cl gr wr : Int32⦄ ⦃c1 c2 c3 c4 c5 c6 c7 c8 c9 c10 c11 c12 c13 : Nat → Int32⦄, k R A M F S N P C G W B6 B7 B8 B9 B10 B11 B12 B13 = true → ab_rv e R r → ab_rg e A M F S N op c1 c2 c3 c4 c5 → ab_rv e P pi → ab_rv e C cl → ab_rv e G gr → ab_rv e W wr → ab_ra e 12 B6 c6 → ab_ra e 12 B7 c7 → ab_ra e 12 B8 c8 → ab_ra e 12 B9 c9 → ab_ra e 12 B10 c10 → ab_ra e 12 B11 c11 → ab_ra e 12 B12 c12 → ab_ra e 12 B13 c13 → post r (op, pi, cl, gr, wr, c1, c2, c3, c4, c5, c6, c7, c8, c9, c10, c11, c12, c13)) (h_x1 : ab_rv e X_x1 x1) (h_x2 : ab_rv e X_x2 x2) : ∀ (n : Nat) ⦃X_x3 X_x4 X_f0_piled X_f0_clock X_f0_groups X_f0_wrong X_a1 M_a1 F_a1 S_a1 N_a1 X_a6 X_a7 X_a8 X_a9 X_a10 X_a11 X_a12 X_a13 : Nat⦄ ⦃x3 x4 f0_op f0_piled f0_clock f0_groups f0_wrong : Int32⦄ ⦃a1 a2 a3 a4 a5 a6 a7 a8 a9 a10 a11 a12 a13 : Nat → Int32⦄, bz_distance_63 k X_x1 X_x2 n X_x3 X_x4 X_f0_piled X_f0_clock X_f0_groups X_f0_wrong X_a1 M_a1 F_a1 S_a1 N_a1 X_a6 X_a7 X_a8 X_a9 X_a10 X_a11 X_a12 X_a13 = true → ab_rv e X_x3 x3 → ab_rv e X_x4 x4 → ab_rv e X_f0_piled f0_piled → ab_rv e X_f0_clock f0_clock → ab_rv e X_f0_groups f0_groups → ab_rv e X_f0_wrong f0_wrong → ab_rg e X_a1 M_a1 F_a1 S_a1 N_a1 f0_op a1 a2 a3 a4 a5 → ab_ra e 12 X_a6 a6 → ab_ra e 12 X_a7 a7 → ab_ra e 12 X_a8 a8 → ab_ra e 12 X_a9 a9 → ab_ra e 12 X_a10 a10 → ab_ra e 12 X_a11 a11 → ab_ra e 12 X_a12 a12 → ab_ra e 12 X_a13 a13 → wX_distance_63 post x1 x2 n x3 x4 f0_op f0_piled f0_clock f0_groups f0_wrong a1 a2 a3 a4 a5 a6 a7 a8 a9 a10 a11 a12 a13 := by
  intro n
  induction n with
  | zero =>
    intro X_x3 X_x4 X_f0_piled X_f0_clock X_f0_groups X_f0_wrong X_a1 M_a1 F_a1 S_a1 N_a1 X_a6 X_a7 X_a8 X_a9 X_a10 X_a11 X_a12 X_a13 x3 x4 f0_op f0_piled f0_clock f0_groups f0_wrong a1 a2 a3 a4 a5 a6 a7 a8 a9 a10 a11 a12 a13 hb h_x3 h_x4 h_f0_piled h_f0_clock h_f0_groups h_f0_wrong g_a1 h_a6 h_a7 h_a8 h_a9 h_a10 h_a11 h_a12 h_a13
    exact absurd (show false = true from hb) (by decide)
  | succ n ih =>
    intro X_x3 X_x4 X_f0_piled X_f0_clock X_f0_groups X_f0_wrong X_a1 M_a1 F_a1 S_a1 N_a1 X_a6 X_a7 X_a8 X_a9 X_a10 X_a11 X_a12 X_a13 x3 x4 f0_op f0_piled f0_clock f0_groups f0_wrong a1 a2 a3 a4 a5 a6 a7 a8 a9 a10 a11 a12 a13 hb h_x3 h_x4 h_f0_piled h_f0_clock h_f0_groups h_f0_wrong g_a1 h_a6 h_a7 h_a8 h_a9 h_a10 h_a11 h_a12 h_a13
    refine ab_leS hb h_x3 h_x4 (fun hb => ?_) (fun hb => ?_)
    · refine ab_d12 ?_
      refine ab_vinS hb (by decide) (ab_subS h_x1 (ab_mulS (ab_divS h_x1 ab_l12) ab_l12)) (fun hb => ?_)
      refine ab_letS hb (ab_rdS (by decide) h_a6 (ab_subS h_x1 (ab_mulS (ab_divS h_x1 ab_l12) ab_l12))) ?_
      intro X_x4_15 x4_15 hb h_x4_15
      refine ab_leS hb ab_l0 h_x4_15 (fun hb => ?_) (fun hb => ?_)
      · exact hk hb h_x4_15 g_a1 h_f0_piled h_f0_clock h_f0_groups h_f0_wrong h_a6 h_a7 h_a8 h_a9 h_a10 h_a11 h_a12 h_a13
      · exact hk hb ab_m2 g_a1 h_f0_piled h_f0_clock h_f0_groups h_f0_wrong h_a6 h_a7 h_a8 h_a9 h_a10 h_a11 h_a12 h_a13
    · refine ab_vinS hb (by decide) h_x4 (fun hb => ?_)
      refine sz_goOn hb ?_ g_a1 h_f0_piled h_f0_clock h_f0_groups h_f0_wrong h_a6 h_a7 h_a8 h_a9 h_a10 h_a11 h_a12 h_a13 (ab_rdS (by decide) h_a8 h_x4) h_x2 h_x3
      intro X_r_18 X_am791_26 M_am791_26 F_am791_26 S_am791_26 N_am791_26 X_f0_piled_20 X_f0_clock_21 X_f0_groups_22 X_f0_wrong_23 X_am796_41 X_am797_44 X_am798_47 X_am799_50 X_am7910_53 X_am7911_56 X_am7912_59 X_am7913_62 r_18 f0_op_19 f0_piled_20 f0_clock_21 f0_groups_22 f0_wrong_23 am791_26 am792_29 am793_32 am794_35 am795_38 am796_41 am797_44 am798_47 am799_50 am7910_53 am7911_56 am7912_59 am7913_62 hb h_r_18 g_am791_26 h_f0_piled_20 h_f0_clock_21 h_f0_groups_22 h_f0_wrong_23 h_am796_41 h_am797_44 h_am798_47 h_am799_50 h_am7910_53 h_am7911_56 h_am7912_59 h_am7913_62
      refine ab_letS hb (ab_addS h_x4 ab_l1) ?_
      intro X_x4_63 x4_63 hb h_x4_63
      exact ih hb h_r_18 h_x4_63 h_f0_piled_20 h_f0_clock_21 h_f0_groups_22 h_f0_wrong_23 g_am791_26 h_am796_41 h_am797_44 h_am798_47 h_am799_50 h_am7910_53 h_am7911_56 h_am7912_59 h_am7913_62
noncomputable def bz_distance_19 (k : Nat → Nat → Nat → Nat → Nat → Nat → Nat → Nat → Nat → Nat → Nat → Nat → Nat → Nat → Nat → Nat → Nat → Nat → Bool) (X_x1 X_x2 X_f0_piled X_f0_clock X_f0_groups X_f0_wrong : Nat) (n : Nat) : Nat → Nat → Nat → Nat → Nat → Nat → Nat → Nat → Nat → Nat → Nat → Nat → Nat → Nat → Bool :=
  Nat.rec (motive := fun _ => Nat → Nat → Nat → Nat → Nat → Nat → Nat → Nat → Nat → Nat → Nat → Nat → Nat → Nat → Bool) (fun _ _ _ _ _ _ _ _ _ _ _ _ _ _ => false) (fun _ ih => fun X_x3 X_a1 M_a1 F_a1 S_a1 N_a1 X_a6 X_a7 X_a8 X_a9 X_a10 X_a11 X_a12 X_a13 => (ab_le 28 X_x3 (ab_up 12 X_a6 (ab_div X_x1 28) 16 (fun X_a6_8 => (ab_str (ab_set X_a8 0 (ab_cut (ab_div X_x1 28))) (fun X_a8_11 => (bz_distance_63 k X_x1 X_x2 200 17 16 X_f0_piled X_f0_clock X_f0_groups X_f0_wrong X_a1 M_a1 F_a1 S_a1 N_a1 X_a6_8 X_a7 X_a8_11 X_a9 X_a10 X_a11 X_a12 X_a13))))) (ab_up 12 X_a6 X_x3 15 (fun X_a6_65 => (ab_str (ab_add X_x3 17) (fun X_x3_66 => (ih X_x3_66 X_a1 M_a1 F_a1 S_a1 N_a1 X_a6_65 X_a7 X_a8 X_a9 X_a10 X_a11 X_a12 X_a13))))))) n
theorem sz_distance_19 {e : Nat → Int32} {post : Int32 → St2 → Prop} {k : Nat → Nat → Nat → Nat → Nat → Nat → Nat → Nat → Nat → Nat → Nat → Nat → Nat → Nat → Nat → Nat → Nat → Nat → Bool} {X_x1 X_x2 X_f0_piled X_f0_clock X_f0_groups X_f0_wrong : Nat} {x1 x2 f0_op f0_piled f0_clock f0_groups f0_wrong : Int32} (hk : ∀ ⦃R A M F S N P C G W B6 B7 B8 B9 B10 B11 B12 B13 : Nat⦄ ⦃r op pi cl gr wr : Int32⦄ ⦃c1 c2 c3 c4 c5 c6 c7 c8 c9 c10 c11 c12 c13 : Nat → Int32⦄, k R A M F S N P C G W B6 B7 B8 B9 B10 B11 B12 B13 = true → ab_rv e R r → ab_rg e A M F S N op c1 c2 c3 c4 c5 → ab_rv e P pi → ab_rv e C cl → ab_rv e G gr → ab_rv e W wr → ab_ra e 12 B6 c6 → ab_ra e 12 B7 c7 → ab_ra e 12 B8 c8 → ab_ra e 12 B9 c9 → ab_ra e 12 B10 c10 → ab_ra e 12 B11 c11 → ab_ra e 12 B12 c12 → ab_ra e 12 B13 c13 → post r (op, pi, cl, gr, wr, c1, c2, c3, c4, c5, c6, c7, c8, c9, c10, c11, c12, c13)) (h_x1 : ab_rv e X_x1 x1) (h_x2 : ab_rv e X_x2 x2) (h_f0_piled : ab_rv e X_f0_piled f0_piled) (h_f0_clock : ab_rv e X_f0_clock f0_clock) (h_f0_groups : ab_rv e X_f0_groups f0_groups) (h_f0_wrong : ab_rv e X_f0_wrong f0_wrong) : ∀ (n : Nat) ⦃X_x3 X_a1 M_a1 F_a1 S_a1 N_a1 X_a6 X_a7 X_a8 X_a9 X_a10 X_a11 X_a12 X_a13 : Nat⦄ ⦃x3 : Int32⦄ ⦃a1 a2 a3 a4 a5 a6 a7 a8 a9 a10 a11 a12 a13 : Nat → Int32⦄, bz_distance_19 k X_x1 X_x2 X_f0_piled X_f0_clock X_f0_groups X_f0_wrong n X_x3 X_a1 M_a1 F_a1 S_a1 N_a1 X_a6 X_a7 X_a8 X_a9 X_a10 X_a11 X_a12 X_a13 = true → ab_rv e X_x3 x3 → ab_rg e X_a1 M_a1 F_a1 S_a1 N_a1 f0_op a1 a2 a3 a4 a5 → ab_ra e 12 X_a6 a6 → ab_ra e 12 X_a7 a7 → ab_ra e 12 X_a8 a8 → ab_ra e 12 X_a9 a9 → ab_ra e 12 X_a10 a10 → ab_ra e 12 X_a11 a11 → ab_ra e 12 X_a12 a12 → ab_ra e 12 X_a13 a13 → wX_distance_19 post x1 x2 f0_op f0_piled f0_clock f0_groups f0_wrong n x3 a1 a2 a3 a4 a5 a6 a7 a8 a9 a10 a11 a12 a13 := by
  intro n
  induction n with
  | zero =>
    intro X_x3 X_a1 M_a1 F_a1 S_a1 N_a1 X_a6 X_a7 X_a8 X_a9 X_a10 X_a11 X_a12 X_a13 x3 a1 a2 a3 a4 a5 a6 a7 a8 a9 a10 a11 a12 a13 hb h_x3 g_a1 h_a6 h_a7 h_a8 h_a9 h_a10 h_a11 h_a12 h_a13
    exact absurd (show false = true from hb) (by decide)
  | succ n ih =>
    intro X_x3 X_a1 M_a1 F_a1 S_a1 N_a1 X_a6 X_a7 X_a8 X_a9 X_a10 X_a11 X_a12 X_a13 x3 a1 a2 a3 a4 a5 a6 a7 a8 a9 a10 a11 a12 a13 hb h_x3 g_a1 h_a6 h_a7 h_a8 h_a9 h_a10 h_a11 h_a12 h_a13
    refine ab_leS hb ab_l12 h_x3 (fun hb => ?_) (fun hb => ?_)
    · refine ab_d12 ?_
      refine ab_upS hb (by decide) h_a6 (ab_divS h_x1 ab_l12) ab_l0 ?_
      intro X_a6_8 a6_8 hb h_a6_8
      refine ab_d12 ?_
      refine ab_upK 0 hb h_a8 (ab_divS h_x1 ab_l12) ?_
      intro X_a8_11 a8_11 hb h_a8_11
      exact ⟨200, sz_distance_63 hk h_x1 h_x2 200 hb ab_l1 ab_l0 h_f0_piled h_f0_clock h_f0_groups h_f0_wrong g_a1 h_a6_8 h_a7 h_a8_11 h_a9 h_a10 h_a11 h_a12 h_a13⟩
    · refine ab_upS hb (by decide) h_a6 h_x3 ab_m1 ?_
      intro X_a6_65 a6_65 hb h_a6_65
      refine ab_letS hb (ab_addS h_x3 ab_l1) ?_
      intro X_x3_66 x3_66 hb h_x3_66
      exact ih hb h_x3_66 g_a1 h_a6_65 h_a7 h_a8 h_a9 h_a10 h_a11 h_a12 h_a13
noncomputable def bz_distance (k : Nat → Nat → Nat → Nat → Nat → Nat → Nat → Nat → Nat → Nat → Nat → Nat → Nat → Nat → Nat → Nat → Nat → Nat → Bool) (X_a1 M_a1 F_a1 S_a1 N_a1 X_f0_piled X_f0_clock X_f0_groups X_f0_wrong X_a6 X_a7 X_a8 X_a9 X_a10 X_a11 X_a12 X_a13 X_p0 X_p1 : Nat) : Bool :=
  (bz_areEnds (fun X_r_1 => (ab_eq X_r_1 16 (k 15 X_a1 M_a1 F_a1 S_a1 N_a1 X_f0_piled X_f0_clock X_f0_groups X_f0_wrong X_a6 X_a7 X_a8 X_a9 X_a10 X_a11 X_a12 X_a13) (bz_isType (fun X_r_3 => (ab_eq X_r_3 16 (k 15 X_a1 M_a1 F_a1 S_a1 N_a1 X_f0_piled X_f0_clock X_f0_groups X_f0_wrong X_a6 X_a7 X_a8 X_a9 X_a10 X_a11 X_a12 X_a13) (bz_distance_19 k X_p0 X_p1 X_f0_piled X_f0_clock X_f0_groups X_f0_wrong 200 16 X_a1 M_a1 F_a1 S_a1 N_a1 X_a6 X_a7 X_a8 X_a9 X_a10 X_a11 X_a12 X_a13))) X_p1))) X_a1 M_a1 F_a1 S_a1 N_a1 X_f0_piled X_f0_clock X_f0_groups X_f0_wrong X_a6 X_a7 X_a8 X_a9 X_a10 X_a11 X_a12 X_a13 X_p0)
theorem sz_distance {e : Nat → Int32} {post : Int32 → St2 → Prop} {k : Nat → Nat → Nat → Nat → Nat → Nat → Nat → Nat → Nat → Nat → Nat → Nat → Nat → Nat → Nat → Nat → Nat → Nat → Bool} {X_a1 M_a1 F_a1 S_a1 N_a1 X_f0_piled X_f0_clock X_f0_groups X_f0_wrong X_a6 X_a7 X_a8 X_a9 X_a10 X_a11 X_a12 X_a13 X_p0 X_p1 : Nat} {f0_op f0_piled f0_clock f0_groups f0_wrong p0 p1 : Int32} {a1 a2 a3 a4 a5 a6 a7 a8 a9 a10 a11 a12 a13 : Nat → Int32} (hb : bz_distance k X_a1 M_a1 F_a1 S_a1 N_a1 X_f0_piled X_f0_clock X_f0_groups X_f0_wrong X_a6 X_a7 X_a8 X_a9 X_a10 X_a11 X_a12 X_a13 X_p0 X_p1 = true) (hk : ∀ ⦃R A M F S N P C G W B6 B7 B8 B9 B10 B11 B12 B13 : Nat⦄ ⦃r op pi cl gr wr : Int32⦄ ⦃c1 c2 c3 c4 c5 c6 c7 c8 c9 c10 c11 c12 c13 : Nat → Int32⦄, k R A M F S N P C G W B6 B7 B8 B9 B10 B11 B12 B13 = true → ab_rv e R r → ab_rg e A M F S N op c1 c2 c3 c4 c5 → ab_rv e P pi → ab_rv e C cl → ab_rv e G gr → ab_rv e W wr → ab_ra e 12 B6 c6 → ab_ra e 12 B7 c7 → ab_ra e 12 B8 c8 → ab_ra e 12 B9 c9 → ab_ra e 12 B10 c10 → ab_ra e 12 B11 c11 → ab_ra e 12 B12 c12 → ab_ra e 12 B13 c13 → post r (op, pi, cl, gr, wr, c1, c2, c3, c4, c5, c6, c7, c8, c9, c10, c11, c12, c13)) (g_a1 : ab_rg e X_a1 M_a1 F_a1 S_a1 N_a1 f0_op a1 a2 a3 a4 a5) (h_f0_piled : ab_rv e X_f0_piled f0_piled) (h_f0_clock : ab_rv e X_f0_clock f0_clock) (h_f0_groups : ab_rv e X_f0_groups f0_groups) (h_f0_wrong : ab_rv e X_f0_wrong f0_wrong) (h_a6 : ab_ra e 12 X_a6 a6) (h_a7 : ab_ra e 12 X_a7 a7) (h_a8 : ab_ra e 12 X_a8 a8) (h_a9 : ab_ra e 12 X_a9 a9) (h_a10 : ab_ra e 12 X_a10 a10) (h_a11 : ab_ra e 12 X_a11 a11) (h_a12 : ab_ra e 12 X_a12 a12) (h_a13 : ab_ra e 12 X_a13 a13) (h_p0 : ab_rv e X_p0 p0) (h_p1 : ab_rv e X_p1 p1) : wpX_distance post (f0_op, f0_piled, f0_clock, f0_groups, f0_wrong, a1, a2, a3, a4, a5, a6, a7, a8, a9, a10, a11, a12, a13) p0 p1 := by
  unfold wpX_distance
  refine sz_areEnds hb ?_ g_a1 h_f0_piled h_f0_clock h_f0_groups h_f0_wrong h_a6 h_a7 h_a8 h_a9 h_a10 h_a11 h_a12 h_a13 h_p0
  intro X_r_1 r_1 hb h_r_1
  refine ab_eqS hb h_r_1 ab_l0 (fun hb => ?_) (fun hb => ?_)
  · exact hk hb ab_m1 g_a1 h_f0_piled h_f0_clock h_f0_groups h_f0_wrong h_a6 h_a7 h_a8 h_a9 h_a10 h_a11 h_a12 h_a13
  · refine sz_isType hb ?_ h_p1
    intro X_r_3 r_3 hb h_r_3
    refine ab_eqS hb h_r_3 ab_l0 (fun hb => ?_) (fun hb => ?_)
    · exact hk hb ab_m1 g_a1 h_f0_piled h_f0_clock h_f0_groups h_f0_wrong h_a6 h_a7 h_a8 h_a9 h_a10 h_a11 h_a12 h_a13
    · exact ⟨200, sz_distance_19 hk h_p0 h_p1 h_f0_piled h_f0_clock h_f0_groups h_f0_wrong 200 hb ab_l0 g_a1 h_a6 h_a7 h_a8 h_a9 h_a10 h_a11 h_a12 h_a13⟩
noncomputable def bz_nearest_4 (k : Nat → Bool) (X_f0_piled X_f0_clock X_f0_groups X_f0_wrong X_a1 M_a1 F_a1 S_a1 N_a1 X_a6 X_a7 X_a8 X_a9 X_a10 X_a11 X_a12 X_a13 : Nat) (n : Nat) : Nat → Nat → Bool :=
  Nat.rec (motive := fun _ => Nat → Nat → Bool) (fun _ _ => false) (fun _ ih => fun X_x1 X_x2 => (ab_le 28 X_x2 (k X_x1) (ab_vin 12 X_x2 (ab_eq (ab_rd 12 X_a7 X_x2) 16 (ab_vin 12 X_x2 (ab_lt (ab_rd 12 X_a6 X_x2) 16 (ab_str (ab_add X_x2 17) (fun X_x2_7 => (ih X_x1 X_x2_7))) (ab_lt X_x1 16 (ab_str (ab_add X_x2 17) (fun X_x2_9 => (ih X_x2 X_x2_9))) (ab_vin 12 X_x2 (ab_vin 12 X_x1 (ab_le (ab_rd 12 X_a6 X_x1) (ab_rd 12 X_a6 X_x2) (ab_str (ab_add X_x2 17) (fun X_x2_13 => (ih X_x1 X_x2_13))) (ab_str (ab_add X_x2 17) (fun X_x2_14 => (ih X_x2 X_x2_14))))))))) (ab_str (ab_add X_x2 17) (fun X_x2_4 => (ih X_x1 X_x2_4))))))) n
theorem sz_nearest_4 {e : Nat → Int32} {post : Int32 → Prop} {k : Nat → Bool} {X_f0_piled X_f0_clock X_f0_groups X_f0_wrong X_a1 M_a1 F_a1 S_a1 N_a1 X_a6 X_a7 X_a8 X_a9 X_a10 X_a11 X_a12 X_a13 : Nat} {f0_op f0_piled f0_clock f0_groups f0_wrong : Int32} {a1 a2 a3 a4 a5 a6 a7 a8 a9 a10 a11 a12 a13 : Nat → Int32} (hk : ∀ ⦃R : Nat⦄ ⦃r : Int32⦄, k R = true → ab_rv e R r → post r) (h_f0_piled : ab_rv e X_f0_piled f0_piled) (h_f0_clock : ab_rv e X_f0_clock f0_clock) (h_f0_groups : ab_rv e X_f0_groups f0_groups) (h_f0_wrong : ab_rv e X_f0_wrong f0_wrong) (g_a1 : ab_rg e X_a1 M_a1 F_a1 S_a1 N_a1 f0_op a1 a2 a3 a4 a5) (h_a6 : ab_ra e 12 X_a6 a6) (h_a7 : ab_ra e 12 X_a7 a7) (h_a8 : ab_ra e 12 X_a8 a8) (h_a9 : ab_ra e 12 X_a9 a9) (h_a10 : ab_ra e 12 X_a10 a10) (h_a11 : ab_ra e 12 X_a11 a11) (h_a12 : ab_ra e 12 X_a12 a12) (h_a13 : ab_ra e 12 X_a13 a13) : ∀ (n : Nat) ⦃X_x1 X_x2 : Nat⦄ ⦃x1 x2 : Int32⦄, bz_nearest_4 k X_f0_piled X_f0_clock X_f0_groups X_f0_wrong X_a1 M_a1 F_a1 S_a1 N_a1 X_a6 X_a7 X_a8 X_a9 X_a10 X_a11 X_a12 X_a13 n X_x1 X_x2 = true → ab_rv e X_x1 x1 → ab_rv e X_x2 x2 → wX_nearest_4 post f0_op f0_piled f0_clock f0_groups f0_wrong a1 a2 a3 a4 a5 a6 a7 a8 a9 a10 a11 a12 a13 n x1 x2 := by
  intro n
  induction n with
  | zero =>
    intro X_x1 X_x2 x1 x2 hb h_x1 h_x2
    exact absurd (show false = true from hb) (by decide)
  | succ n ih =>
    intro X_x1 X_x2 x1 x2 hb h_x1 h_x2
    refine ab_leS hb ab_l12 h_x2 (fun hb => ?_) (fun hb => ?_)
    · exact hk hb h_x1
    · refine ab_vinS hb (by decide) h_x2 (fun hb => ?_)
      refine ab_eqS hb (ab_rdS (by decide) h_a7 h_x2) ab_l0 (fun hb => ?_) (fun hb => ?_)
      · refine ab_vinS hb (by decide) h_x2 (fun hb => ?_)
        refine ab_ltS hb (ab_rdS (by decide) h_a6 h_x2) ab_l0 (fun hb => ?_) (fun hb => ?_)
        · refine ab_letS hb (ab_addS h_x2 ab_l1) ?_
          intro X_x2_7 x2_7 hb h_x2_7
          exact ih hb h_x1 h_x2_7
        · refine ab_ltS hb h_x1 ab_l0 (fun hb => ?_) (fun hb => ?_)
          · refine ab_letS hb (ab_addS h_x2 ab_l1) ?_
            intro X_x2_9 x2_9 hb h_x2_9
            exact ih hb h_x2 h_x2_9
          · refine ab_vinS hb (by decide) h_x2 (fun hb => ?_)
            refine ab_vinS hb (by decide) h_x1 (fun hb => ?_)
            refine ab_leS hb (ab_rdS (by decide) h_a6 h_x1) (ab_rdS (by decide) h_a6 h_x2) (fun hb => ?_) (fun hb => ?_)
            · refine ab_letS hb (ab_addS h_x2 ab_l1) ?_
              intro X_x2_13 x2_13 hb h_x2_13
              exact ih hb h_x1 h_x2_13
            · refine ab_letS hb (ab_addS h_x2 ab_l1) ?_
              intro X_x2_14 x2_14 hb h_x2_14
              exact ih hb h_x2 h_x2_14
      · refine ab_letS hb (ab_addS h_x2 ab_l1) ?_
        intro X_x2_4 x2_4 hb h_x2_4
        exact ih hb h_x1 h_x2_4
noncomputable def bz_nearest (k : Nat → Bool) (X_a1 M_a1 F_a1 S_a1 N_a1 X_f0_piled X_f0_clock X_f0_groups X_f0_wrong X_a6 X_a7 X_a8 X_a9 X_a10 X_a11 X_a12 X_a13 : Nat) : Bool :=
  (bz_nearest_4 k X_f0_piled X_f0_clock X_f0_groups X_f0_wrong X_a1 M_a1 F_a1 S_a1 N_a1 X_a6 X_a7 X_a8 X_a9 X_a10 X_a11 X_a12 X_a13 200 15 16)
theorem sz_nearest {e : Nat → Int32} {post : Int32 → Prop} {k : Nat → Bool} {X_a1 M_a1 F_a1 S_a1 N_a1 X_f0_piled X_f0_clock X_f0_groups X_f0_wrong X_a6 X_a7 X_a8 X_a9 X_a10 X_a11 X_a12 X_a13 : Nat} {f0_op f0_piled f0_clock f0_groups f0_wrong : Int32} {a1 a2 a3 a4 a5 a6 a7 a8 a9 a10 a11 a12 a13 : Nat → Int32} (hb : bz_nearest k X_a1 M_a1 F_a1 S_a1 N_a1 X_f0_piled X_f0_clock X_f0_groups X_f0_wrong X_a6 X_a7 X_a8 X_a9 X_a10 X_a11 X_a12 X_a13 = true) (hk : ∀ ⦃R : Nat⦄ ⦃r : Int32⦄, k R = true → ab_rv e R r → post r) (g_a1 : ab_rg e X_a1 M_a1 F_a1 S_a1 N_a1 f0_op a1 a2 a3 a4 a5) (h_f0_piled : ab_rv e X_f0_piled f0_piled) (h_f0_clock : ab_rv e X_f0_clock f0_clock) (h_f0_groups : ab_rv e X_f0_groups f0_groups) (h_f0_wrong : ab_rv e X_f0_wrong f0_wrong) (h_a6 : ab_ra e 12 X_a6 a6) (h_a7 : ab_ra e 12 X_a7 a7) (h_a8 : ab_ra e 12 X_a8 a8) (h_a9 : ab_ra e 12 X_a9 a9) (h_a10 : ab_ra e 12 X_a10 a10) (h_a11 : ab_ra e 12 X_a11 a11) (h_a12 : ab_ra e 12 X_a12 a12) (h_a13 : ab_ra e 12 X_a13 a13) : wpX_nearest post (f0_op, f0_piled, f0_clock, f0_groups, f0_wrong, a1, a2, a3, a4, a5, a6, a7, a8, a9, a10, a11, a12, a13) := by
  exact ⟨200, sz_nearest_4 hk h_f0_piled h_f0_clock h_f0_groups h_f0_wrong g_a1 h_a6 h_a7 h_a8 h_a9 h_a10 h_a11 h_a12 h_a13 200 hb ab_m1 ab_l0⟩
noncomputable def bz_relax_101 (k : Nat → Nat → Nat → Nat → Nat → Nat → Nat → Nat → Nat → Nat → Nat → Nat → Nat → Nat → Nat → Nat → Nat → Bool) (J15 : Nat → Nat → Nat → Nat → Nat → Nat → Nat → Nat → Nat → Nat → Nat → Nat → Nat → Nat → Nat → Bool) (X_x1 X_x2 X_x3 X_x4 X_f0_piled X_f0_clock X_f0_groups X_f0_wrong X_a1 M_a1 F_a1 S_a1 N_a1 X_a6 X_a7 X_a8 X_a9 X_a10 X_a11 X_a12 X_a13 : Nat) : Bool :=
  (bz_arrowCell (fun X_r_15 => (ab_vin 340 (ab_add X_r_15 21) (ab_str (ab_rdc X_a1 (ab_add X_r_15 21)) (fun X_x3_17 => (ab_str (ab_add X_x4 17) (fun X_x4_18 => (J15 X_x3_17 X_x4_18 X_a1 M_a1 F_a1 S_a1 N_a1 X_a6 X_a7 X_a8 X_a9 X_a10 X_a11 X_a12 X_a13))))))) X_x3)
theorem sz_relax_101 {e : Nat → Int32} {post : St2 → Prop} {k : Nat → Nat → Nat → Nat → Nat → Nat → Nat → Nat → Nat → Nat → Nat → Nat → Nat → Nat → Nat → Nat → Nat → Bool} {J15 : Nat → Nat → Nat → Nat → Nat → Nat → Nat → Nat → Nat → Nat → Nat → Nat → Nat → Nat → Nat → Bool} {CJ15 : Int32 → Int32 → (Nat → Int32) → (Nat → Int32) → (Nat → Int32) → (Nat → Int32) → (Nat → Int32) → (Nat → Int32) → (Nat → Int32) → (Nat → Int32) → (Nat → Int32) → (Nat → Int32) → (Nat → Int32) → (Nat → Int32) → (Nat → Int32) → Prop} {X_x1 X_x2 X_x3 X_x4 X_f0_piled X_f0_clock X_f0_groups X_f0_wrong X_a1 M_a1 F_a1 S_a1 N_a1 X_a6 X_a7 X_a8 X_a9 X_a10 X_a11 X_a12 X_a13 : Nat} {x1 x2 x3 x4 f0_op f0_piled f0_clock f0_groups f0_wrong : Int32} {a1 a2 a3 a4 a5 a6 a7 a8 a9 a10 a11 a12 a13 : Nat → Int32} (hb : bz_relax_101 k J15 X_x1 X_x2 X_x3 X_x4 X_f0_piled X_f0_clock X_f0_groups X_f0_wrong X_a1 M_a1 F_a1 S_a1 N_a1 X_a6 X_a7 X_a8 X_a9 X_a10 X_a11 X_a12 X_a13 = true) (hk : ∀ ⦃A M F S N P C G W B6 B7 B8 B9 B10 B11 B12 B13 : Nat⦄ ⦃op pi cl gr wr : Int32⦄ ⦃c1 c2 c3 c4 c5 c6 c7 c8 c9 c10 c11 c12 c13 : Nat → Int32⦄, k A M F S N P C G W B6 B7 B8 B9 B10 B11 B12 B13 = true → ab_rg e A M F S N op c1 c2 c3 c4 c5 → ab_rv e P pi → ab_rv e C cl → ab_rv e G gr → ab_rv e W wr → ab_ra e 12 B6 c6 → ab_ra e 12 B7 c7 → ab_ra e 12 B8 c8 → ab_ra e 12 B9 c9 → ab_ra e 12 B10 c10 → ab_ra e 12 B11 c11 → ab_ra e 12 B12 c12 → ab_ra e 12 B13 c13 → post (op, pi, cl, gr, wr, c1, c2, c3, c4, c5, c6, c7, c8, c9, c10, c11, c12, c13)) (hJ15 : ∀ ⦃X_x3 X_x4 X_a1 M_a1 F_a1 S_a1 N_a1 X_a6 X_a7 X_a8 X_a9 X_a10 X_a11 X_a12 X_a13 : Nat⦄ ⦃x3 x4 : Int32⦄ ⦃a1 a2 a3 a4 a5 a6 a7 a8 a9 a10 a11 a12 a13 : Nat → Int32⦄, J15 X_x3 X_x4 X_a1 M_a1 F_a1 S_a1 N_a1 X_a6 X_a7 X_a8 X_a9 X_a10 X_a11 X_a12 X_a13 = true → ab_rv e X_x3 x3 → ab_rv e X_x4 x4 → ab_rg e X_a1 M_a1 F_a1 S_a1 N_a1 f0_op a1 a2 a3 a4 a5 → ab_ra e 12 X_a6 a6 → ab_ra e 12 X_a7 a7 → ab_ra e 12 X_a8 a8 → ab_ra e 12 X_a9 a9 → ab_ra e 12 X_a10 a10 → ab_ra e 12 X_a11 a11 → ab_ra e 12 X_a12 a12 → ab_ra e 12 X_a13 a13 → CJ15 x3 x4 a1 a2 a3 a4 a5 a6 a7 a8 a9 a10 a11 a12 a13) (h_x1 : ab_rv e X_x1 x1) (h_x2 : ab_rv e X_x2 x2) (h_x3 : ab_rv e X_x3 x3) (h_x4 : ab_rv e X_x4 x4) (h_f0_piled : ab_rv e X_f0_piled f0_piled) (h_f0_clock : ab_rv e X_f0_clock f0_clock) (h_f0_groups : ab_rv e X_f0_groups f0_groups) (h_f0_wrong : ab_rv e X_f0_wrong f0_wrong) (g_a1 : ab_rg e X_a1 M_a1 F_a1 S_a1 N_a1 f0_op a1 a2 a3 a4 a5) (h_a6 : ab_ra e 12 X_a6 a6) (h_a7 : ab_ra e 12 X_a7 a7) (h_a8 : ab_ra e 12 X_a8 a8) (h_a9 : ab_ra e 12 X_a9 a9) (h_a10 : ab_ra e 12 X_a10 a10) (h_a11 : ab_ra e 12 X_a11 a11) (h_a12 : ab_ra e 12 X_a12 a12) (h_a13 : ab_ra e 12 X_a13 a13) : wX_relax_101 post CJ15 x1 x2 x3 x4 f0_op f0_piled f0_clock f0_groups f0_wrong a1 a2 a3 a4 a5 a6 a7 a8 a9 a10 a11 a12 a13 := by
  unfold wX_relax_101
  refine sz_arrowCell hb ?_ h_x3
  intro X_r_15 r_15 hb h_r_15
  refine ab_vinS hb (by decide) (ab_addS h_r_15 ab_l5) (fun hb => ?_)
  refine ab_letS hb (ab_rdcS g_a1.1 (ab_addS h_r_15 ab_l5)) ?_
  intro X_x3_17 x3_17 hb h_x3_17
  refine ab_letS hb (ab_addS h_x4 ab_l1) ?_
  intro X_x4_18 x4_18 hb h_x4_18
  exact hJ15 hb h_x3_17 h_x4_18 g_a1 h_a6 h_a7 h_a8 h_a9 h_a10 h_a11 h_a12 h_a13
noncomputable def bz_relax_92 (k : Nat → Nat → Nat → Nat → Nat → Nat → Nat → Nat → Nat → Nat → Nat → Nat → Nat → Nat → Nat → Nat → Nat → Bool) (J15 : Nat → Nat → Nat → Nat → Nat → Nat → Nat → Nat → Nat → Nat → Nat → Nat → Nat → Nat → Nat → Bool) (X_x1 X_x2 X_x3 X_x4 X_x5 X_x6 X_f0_piled X_f0_clock X_f0_groups X_f0_wrong X_a1 M_a1 F_a1 S_a1 N_a1 X_a6 X_a7 X_a8 X_a9 X_a10 X_a11 X_a12 X_a13 : Nat) : Bool :=
  (ab_up 12 X_a6 X_x5 X_x6 (fun X_a6_22 => (bz_relax_101 k J15 X_x1 X_x2 X_x3 X_x4 X_f0_piled X_f0_clock X_f0_groups X_f0_wrong X_a1 M_a1 F_a1 S_a1 N_a1 X_a6_22 X_a7 X_a8 X_a9 X_a10 X_a11 X_a12 X_a13)))
theorem sz_relax_92 {e : Nat → Int32} {post : St2 → Prop} {k : Nat → Nat → Nat → Nat → Nat → Nat → Nat → Nat → Nat → Nat → Nat → Nat → Nat → Nat → Nat → Nat → Nat → Bool} {J15 : Nat → Nat → Nat → Nat → Nat → Nat → Nat → Nat → Nat → Nat → Nat → Nat → Nat → Nat → Nat → Bool} {CJ15 : Int32 → Int32 → (Nat → Int32) → (Nat → Int32) → (Nat → Int32) → (Nat → Int32) → (Nat → Int32) → (Nat → Int32) → (Nat → Int32) → (Nat → Int32) → (Nat → Int32) → (Nat → Int32) → (Nat → Int32) → (Nat → Int32) → (Nat → Int32) → Prop} {X_x1 X_x2 X_x3 X_x4 X_x5 X_x6 X_f0_piled X_f0_clock X_f0_groups X_f0_wrong X_a1 M_a1 F_a1 S_a1 N_a1 X_a6 X_a7 X_a8 X_a9 X_a10 X_a11 X_a12 X_a13 : Nat} {x1 x2 x3 x4 x5 x6 f0_op f0_piled f0_clock f0_groups f0_wrong : Int32} {a1 a2 a3 a4 a5 a6 a7 a8 a9 a10 a11 a12 a13 : Nat → Int32} (hb : bz_relax_92 k J15 X_x1 X_x2 X_x3 X_x4 X_x5 X_x6 X_f0_piled X_f0_clock X_f0_groups X_f0_wrong X_a1 M_a1 F_a1 S_a1 N_a1 X_a6 X_a7 X_a8 X_a9 X_a10 X_a11 X_a12 X_a13 = true) (hk : ∀ ⦃A M F S N P C G W B6 B7 B8 B9 B10 B11 B12 B13 : Nat⦄ ⦃op pi cl gr wr : Int32⦄ ⦃c1 c2 c3 c4 c5 c6 c7 c8 c9 c10 c11 c12 c13 : Nat → Int32⦄, k A M F S N P C G W B6 B7 B8 B9 B10 B11 B12 B13 = true → ab_rg e A M F S N op c1 c2 c3 c4 c5 → ab_rv e P pi → ab_rv e C cl → ab_rv e G gr → ab_rv e W wr → ab_ra e 12 B6 c6 → ab_ra e 12 B7 c7 → ab_ra e 12 B8 c8 → ab_ra e 12 B9 c9 → ab_ra e 12 B10 c10 → ab_ra e 12 B11 c11 → ab_ra e 12 B12 c12 → ab_ra e 12 B13 c13 → post (op, pi, cl, gr, wr, c1, c2, c3, c4, c5, c6, c7, c8, c9, c10, c11, c12, c13)) (hJ15 : ∀ ⦃X_x3 X_x4 X_a1 M_a1 F_a1 S_a1 N_a1 X_a6 X_a7 X_a8 X_a9 X_a10 X_a11 X_a12 X_a13 : Nat⦄ ⦃x3 x4 : Int32⦄ ⦃a1 a2 a3 a4 a5 a6 a7 a8 a9 a10 a11 a12 a13 : Nat → Int32⦄, J15 X_x3 X_x4 X_a1 M_a1 F_a1 S_a1 N_a1 X_a6 X_a7 X_a8 X_a9 X_a10 X_a11 X_a12 X_a13 = true → ab_rv e X_x3 x3 → ab_rv e X_x4 x4 → ab_rg e X_a1 M_a1 F_a1 S_a1 N_a1 f0_op a1 a2 a3 a4 a5 → ab_ra e 12 X_a6 a6 → ab_ra e 12 X_a7 a7 → ab_ra e 12 X_a8 a8 → ab_ra e 12 X_a9 a9 → ab_ra e 12 X_a10 a10 → ab_ra e 12 X_a11 a11 → ab_ra e 12 X_a12 a12 → ab_ra e 12 X_a13 a13 → CJ15 x3 x4 a1 a2 a3 a4 a5 a6 a7 a8 a9 a10 a11 a12 a13) (h_x1 : ab_rv e X_x1 x1) (h_x2 : ab_rv e X_x2 x2) (h_x3 : ab_rv e X_x3 x3) (h_x4 : ab_rv e X_x4 x4) (h_x5 : ab_rv e X_x5 x5) (h_x6 : ab_rv e X_x6 x6) (h_f0_piled : ab_rv e X_f0_piled f0_piled) (h_f0_clock : ab_rv e X_f0_clock f0_clock) (h_f0_groups : ab_rv e X_f0_groups f0_groups) (h_f0_wrong : ab_rv e X_f0_wrong f0_wrong) (g_a1 : ab_rg e X_a1 M_a1 F_a1 S_a1 N_a1 f0_op a1 a2 a3 a4 a5) (h_a6 : ab_ra e 12 X_a6 a6) (h_a7 : ab_ra e 12 X_a7 a7) (h_a8 : ab_ra e 12 X_a8 a8) (h_a9 : ab_ra e 12 X_a9 a9) (h_a10 : ab_ra e 12 X_a10 a10) (h_a11 : ab_ra e 12 X_a11 a11) (h_a12 : ab_ra e 12 X_a12 a12) (h_a13 : ab_ra e 12 X_a13 a13) : wX_relax_92 post CJ15 x1 x2 x3 x4 x5 x6 f0_op f0_piled f0_clock f0_groups f0_wrong a1 a2 a3 a4 a5 a6 a7 a8 a9 a10 a11 a12 a13 := by
  refine ab_upS hb (by decide) h_a6 h_x5 h_x6 ?_
  intro X_a6_22 a6_22 hb h_a6_22
  exact sz_relax_101 hb hk hJ15 h_x1 h_x2 h_x3 h_x4 h_f0_piled h_f0_clock h_f0_groups h_f0_wrong g_a1 h_a6_22 h_a7 h_a8 h_a9 h_a10 h_a11 h_a12 h_a13
noncomputable def bz_relax_15 (k : Nat → Nat → Nat → Nat → Nat → Nat → Nat → Nat → Nat → Nat → Nat → Nat → Nat → Nat → Nat → Nat → Nat → Bool) (X_x1 X_x2 X_f0_piled X_f0_clock X_f0_groups X_f0_wrong : Nat) (n : Nat) : Nat → Nat → Nat → Nat → Nat → Nat → Nat → Nat → Nat → Nat → Nat → Nat → Nat → Nat → Nat → Bool :=
  Nat.rec (motive := fun _ => Nat → Nat → Nat → Nat → Nat → Nat → Nat → Nat → Nat → Nat → Nat → Nat → Nat → Nat → Nat → Bool) (fun _ _ _ _ _ _ _ _ _ _ _ _ _ _ _ => false) (fun _ ih => fun X_x3 X_x4 X_a1 M_a1 F_a1 S_a1 N_a1 X_a6 X_a7 X_a8 X_a9 X_a10 X_a11 X_a12 X_a13 => (ab_le 40 X_x4 (k X_a1 M_a1 F_a1 S_a1 N_a1 X_f0_piled X_f0_clock X_f0_groups X_f0_wrong X_a6 X_a7 X_a8 X_a9 X_a10 X_a11 X_a12 X_a13) (ab_lt X_x3 16 (k X_a1 M_a1 F_a1 S_a1 N_a1 X_f0_piled X_f0_clock X_f0_groups X_f0_wrong X_a6 X_a7 X_a8 X_a9 X_a10 X_a11 X_a12 X_a13) (bz_arrowCell (fun X_r_6 => (ab_vin 340 (ab_add (ab_add X_r_6 17) 17) (ab_str (ab_rdc X_a1 (ab_add (ab_add X_r_6 17) 17)) (fun X_x5_8 => (ab_vin 12 X_x1 (bz_arrowCell (fun X_r_10 => (ab_vin 340 (ab_add X_r_10 20) (ab_str (ab_add (ab_rd 12 X_a6 X_x1) (ab_rdc X_a1 (ab_add X_r_10 20))) (fun X_x6_12 => (bz_isOf (fun X_r_13 => (ab_eq X_r_13 16 (bz_relax_101 k ih X_x1 X_x2 X_x3 X_x4 X_f0_piled X_f0_clock X_f0_groups X_f0_wrong X_a1 M_a1 F_a1 S_a1 N_a1 X_a6 X_a7 X_a8 X_a9 X_a10 X_a11 X_a12 X_a13) (ab_vin 12 X_x5_8 (ab_lt (ab_rd 12 X_a6 X_x5_8) 16 (bz_relax_92 k ih X_x1 X_x2 X_x3 X_x4 X_x5_8 X_x6_12 X_f0_piled X_f0_clock X_f0_groups X_f0_wrong X_a1 M_a1 F_a1 S_a1 N_a1 X_a6 X_a7 X_a8 X_a9 X_a10 X_a11 X_a12 X_a13) (ab_vin 12 X_x5_8 (ab_le (ab_rd 12 X_a6 X_x5_8) X_x6_12 (bz_relax_101 k ih X_x1 X_x2 X_x3 X_x4 X_f0_piled X_f0_clock X_f0_groups X_f0_wrong X_a1 M_a1 F_a1 S_a1 N_a1 X_a6 X_a7 X_a8 X_a9 X_a10 X_a11 X_a12 X_a13) (bz_relax_92 k ih X_x1 X_x2 X_x3 X_x4 X_x5_8 X_x6_12 X_f0_piled X_f0_clock X_f0_groups X_f0_wrong X_a1 M_a1 F_a1 S_a1 N_a1 X_a6 X_a7 X_a8 X_a9 X_a10 X_a11 X_a12 X_a13))))))) X_a1 M_a1 F_a1 S_a1 N_a1 X_f0_piled X_f0_clock X_f0_groups X_f0_wrong X_a6 X_a7 X_a8 X_a9 X_a10 X_a11 X_a12 X_a13 X_x3 X_x2))))) X_x3)))))) X_x3)))) n
theorem sz_relax_15 {e : Nat → Int32} {post : St2 → Prop} {k : Nat → Nat → Nat → Nat → Nat → Nat → Nat → Nat → Nat → Nat → Nat → Nat → Nat → Nat → Nat → Nat → Nat → Bool} {X_x1 X_x2 X_f0_piled X_f0_clock X_f0_groups X_f0_wrong : Nat} {x1 x2 f0_op f0_piled f0_clock f0_groups f0_wrong : Int32} (hk : ∀ ⦃A M F S N P C G W B6 B7 B8 B9 B10 B11 B12 B13 : Nat⦄ ⦃op pi cl gr wr : Int32⦄ ⦃c1 c2 c3 c4 c5 c6 c7 c8 c9 c10 c11 c12 c13 : Nat → Int32⦄, k A M F S N P C G W B6 B7 B8 B9 B10 B11 B12 B13 = true → ab_rg e A M F S N op c1 c2 c3 c4 c5 → ab_rv e P pi → ab_rv e C cl → ab_rv e G gr → ab_rv e W wr → ab_ra e 12 B6 c6 → ab_ra e 12 B7 c7 → ab_ra e 12 B8 c8 → ab_ra e 12 B9 c9 → ab_ra e 12 B10 c10 → ab_ra e 12 B11 c11 → ab_ra e 12 B12 c12 → ab_ra e 12 B13 c13 → post (op, pi, cl, gr, wr, c1, c2, c3, c4, c5, c6, c7, c8, c9, c10, c11, c12, c13)) (h_x1 : ab_rv e X_x1 x1) (h_x2 : ab_rv e X_x2 x2) (h_f0_piled : ab_rv e X_f0_piled f0_piled) (h_f0_clock : ab_rv e X_f0_clock f0_clock) (h_f0_groups : ab_rv e X_f0_groups f0_groups) (h_f0_wrong : ab_rv e X_f0_wrong f0_wrong) : ∀ (n : Nat) ⦃X_x3 X_x4 X_a1 M_a1 F_a1 S_a1 N_a1 X_a6 X_a7 X_a8 X_a9 X_a10 X_a11 X_a12 X_a13 : Nat⦄ ⦃x3 x4 : Int32⦄ ⦃a1 a2 a3 a4 a5 a6 a7 a8 a9 a10 a11 a12 a13 : Nat → Int32⦄, bz_relax_15 k X_x1 X_x2 X_f0_piled X_f0_clock X_f0_groups X_f0_wrong n X_x3 X_x4 X_a1 M_a1 F_a1 S_a1 N_a1 X_a6 X_a7 X_a8 X_a9 X_a10 X_a11 X_a12 X_a13 = true → ab_rv e X_x3 x3 → ab_rv e X_x4 x4 → ab_rg e X_a1 M_a1 F_a1 S_a1 N_a1 f0_op a1 a2 a3 a4 a5 → ab_ra e 12 X_a6 a6 → ab_ra e 12 X_a7 a7 → ab_ra e 12 X_a8 a8 → ab_ra e 12 X_a9 a9 → ab_ra e 12 X_a10 a10 → ab_ra e 12 X_a11 a11 → ab_ra e 12 X_a12 a12 → ab_ra e 12 X_a13 a13 → wX_relax_15 post x1 x2 f0_op f0_piled f0_clock f0_groups f0_wrong n x3 x4 a1 a2 a3 a4 a5 a6 a7 a8 a9 a10 a11 a12 a13 := by
  intro n
  induction n with
  | zero =>
    intro X_x3 X_x4 X_a1 M_a1 F_a1 S_a1 N_a1 X_a6 X_a7 X_a8 X_a9 X_a10 X_a11 X_a12 X_a13 x3 x4 a1 a2 a3 a4 a5 a6 a7 a8 a9 a10 a11 a12 a13 hb h_x3 h_x4 g_a1 h_a6 h_a7 h_a8 h_a9 h_a10 h_a11 h_a12 h_a13
    exact absurd (show false = true from hb) (by decide)
  | succ n ih =>
    intro X_x3 X_x4 X_a1 M_a1 F_a1 S_a1 N_a1 X_a6 X_a7 X_a8 X_a9 X_a10 X_a11 X_a12 X_a13 x3 x4 a1 a2 a3 a4 a5 a6 a7 a8 a9 a10 a11 a12 a13 hb h_x3 h_x4 g_a1 h_a6 h_a7 h_a8 h_a9 h_a10 h_a11 h_a12 h_a13
    refine ab_leS hb ab_l24 h_x4 (fun hb => ?_) (fun hb => ?_)
    · exact hk hb g_a1 h_f0_piled h_f0_clock h_f0_groups h_f0_wrong h_a6 h_a7 h_a8 h_a9 h_a10 h_a11 h_a12 h_a13
    · refine ab_ltS hb h_x3 ab_l0 (fun hb => ?_) (fun hb => ?_)
      · exact hk hb g_a1 h_f0_piled h_f0_clock h_f0_groups h_f0_wrong h_a6 h_a7 h_a8 h_a9 h_a10 h_a11 h_a12 h_a13
      · refine sz_arrowCell hb ?_ h_x3
        intro X_r_6 r_6 hb h_r_6
        refine ab_vinS hb (by decide) (ab_addS (ab_addS h_r_6 ab_l1) ab_l1) (fun hb => ?_)
        refine ab_letS hb (ab_rdcS g_a1.1 (ab_addS (ab_addS h_r_6 ab_l1) ab_l1)) ?_
        intro X_x5_8 x5_8 hb h_x5_8
        refine ab_vinS hb (by decide) h_x1 (fun hb => ?_)
        refine sz_arrowCell hb ?_ h_x3
        intro X_r_10 r_10 hb h_r_10
        refine ab_vinS hb (by decide) (ab_addS h_r_10 ab_l4) (fun hb => ?_)
        refine ab_letS hb (ab_addS (ab_rdS (by decide) h_a6 h_x1) (ab_rdcS g_a1.1 (ab_addS h_r_10 ab_l4))) ?_
        intro X_x6_12 x6_12 hb h_x6_12
        refine sz_isOf hb ?_ g_a1 h_f0_piled h_f0_clock h_f0_groups h_f0_wrong h_a6 h_a7 h_a8 h_a9 h_a10 h_a11 h_a12 h_a13 h_x3 h_x2
        intro X_r_13 r_13 hb h_r_13
        refine ab_eqS hb h_r_13 ab_l0 (fun hb => ?_) (fun hb => ?_)
        · exact sz_relax_101 hb hk ih h_x1 h_x2 h_x3 h_x4 h_f0_piled h_f0_clock h_f0_groups h_f0_wrong g_a1 h_a6 h_a7 h_a8 h_a9 h_a10 h_a11 h_a12 h_a13
        · refine ab_vinS hb (by decide) h_x5_8 (fun hb => ?_)
          refine ab_ltS hb (ab_rdS (by decide) h_a6 h_x5_8) ab_l0 (fun hb => ?_) (fun hb => ?_)
          · exact sz_relax_92 hb hk ih h_x1 h_x2 h_x3 h_x4 h_x5_8 h_x6_12 h_f0_piled h_f0_clock h_f0_groups h_f0_wrong g_a1 h_a6 h_a7 h_a8 h_a9 h_a10 h_a11 h_a12 h_a13
          · refine ab_vinS hb (by decide) h_x5_8 (fun hb => ?_)
            refine ab_leS hb (ab_rdS (by decide) h_a6 h_x5_8) h_x6_12 (fun hb => ?_) (fun hb => ?_)
            · exact sz_relax_101 hb hk ih h_x1 h_x2 h_x3 h_x4 h_f0_piled h_f0_clock h_f0_groups h_f0_wrong g_a1 h_a6 h_a7 h_a8 h_a9 h_a10 h_a11 h_a12 h_a13
            · exact sz_relax_92 hb hk ih h_x1 h_x2 h_x3 h_x4 h_x5_8 h_x6_12 h_f0_piled h_f0_clock h_f0_groups h_f0_wrong g_a1 h_a6 h_a7 h_a8 h_a9 h_a10 h_a11 h_a12 h_a13
noncomputable def bz_relax (k : Nat → Nat → Nat → Nat → Nat → Nat → Nat → Nat → Nat → Nat → Nat → Nat → Nat → Nat → Nat → Nat → Nat → Bool) (X_a1 M_a1 F_a1 S_a1 N_a1 X_f0_piled X_f0_clock X_f0_groups X_f0_wrong X_a6 X_a7 X_a8 X_a9 X_a10 X_a11 X_a12 X_a13 X_p0 X_p1 : Nat) : Bool :=
  (bz_nodeAt (fun X_r_1 => (ab_vin 340 (ab_add X_r_1 19) (ab_str (ab_rdc X_a1 (ab_add X_r_1 19)) (fun X_x3_3 => (bz_relax_15 k X_p0 X_p1 X_f0_piled X_f0_clock X_f0_groups X_f0_wrong 200 X_x3_3 16 X_a1 M_a1 F_a1 S_a1 N_a1 X_a6 X_a7 X_a8 X_a9 X_a10 X_a11 X_a12 X_a13))))) X_p0)
theorem sz_relax {e : Nat → Int32} {post : St2 → Prop} {k : Nat → Nat → Nat → Nat → Nat → Nat → Nat → Nat → Nat → Nat → Nat → Nat → Nat → Nat → Nat → Nat → Nat → Bool} {X_a1 M_a1 F_a1 S_a1 N_a1 X_f0_piled X_f0_clock X_f0_groups X_f0_wrong X_a6 X_a7 X_a8 X_a9 X_a10 X_a11 X_a12 X_a13 X_p0 X_p1 : Nat} {f0_op f0_piled f0_clock f0_groups f0_wrong p0 p1 : Int32} {a1 a2 a3 a4 a5 a6 a7 a8 a9 a10 a11 a12 a13 : Nat → Int32} (hb : bz_relax k X_a1 M_a1 F_a1 S_a1 N_a1 X_f0_piled X_f0_clock X_f0_groups X_f0_wrong X_a6 X_a7 X_a8 X_a9 X_a10 X_a11 X_a12 X_a13 X_p0 X_p1 = true) (hk : ∀ ⦃A M F S N P C G W B6 B7 B8 B9 B10 B11 B12 B13 : Nat⦄ ⦃op pi cl gr wr : Int32⦄ ⦃c1 c2 c3 c4 c5 c6 c7 c8 c9 c10 c11 c12 c13 : Nat → Int32⦄, k A M F S N P C G W B6 B7 B8 B9 B10 B11 B12 B13 = true → ab_rg e A M F S N op c1 c2 c3 c4 c5 → ab_rv e P pi → ab_rv e C cl → ab_rv e G gr → ab_rv e W wr → ab_ra e 12 B6 c6 → ab_ra e 12 B7 c7 → ab_ra e 12 B8 c8 → ab_ra e 12 B9 c9 → ab_ra e 12 B10 c10 → ab_ra e 12 B11 c11 → ab_ra e 12 B12 c12 → ab_ra e 12 B13 c13 → post (op, pi, cl, gr, wr, c1, c2, c3, c4, c5, c6, c7, c8, c9, c10, c11, c12, c13)) (g_a1 : ab_rg e X_a1 M_a1 F_a1 S_a1 N_a1 f0_op a1 a2 a3 a4 a5) (h_f0_piled : ab_rv e X_f0_piled f0_piled) (h_f0_clock : ab_rv e X_f0_clock f0_clock) (h_f0_groups : ab_rv e X_f0_groups f0_groups) (h_f0_wrong : ab_rv e X_f0_wrong f0_wrong) (h_a6 : ab_ra e 12 X_a6 a6) (h_a7 : ab_ra e 12 X_a7 a7) (h_a8 : ab_ra e 12 X_a8 a8) (h_a9 : ab_ra e 12 X_a9 a9) (h_a10 : ab_ra e 12 X_a10 a10) (h_a11 : ab_ra e 12 X_a11 a11) (h_a12 : ab_ra e 12 X_a12 a12) (h_a13 : ab_ra e 12 X_a13 a13) (h_p0 : ab_rv e X_p0 p0) (h_p1 : ab_rv e X_p1 p1) : wpX_relax post (f0_op, f0_piled, f0_clock, f0_groups, f0_wrong, a1, a2, a3, a4, a5, a6, a7, a8, a9, a10, a11, a12, a13) p0 p1 := by
  unfold wpX_relax
  refine sz_nodeAt hb ?_ h_p0
  intro X_r_1 r_1 hb h_r_1
  refine ab_vinS hb (by decide) (ab_addS h_r_1 ab_l3) (fun hb => ?_)
  refine ab_letS hb (ab_rdcS g_a1.1 (ab_addS h_r_1 ab_l3)) ?_
  intro X_x3_3 x3_3 hb h_x3_3
  exact ⟨200, sz_relax_15 hk h_p0 h_p1 h_f0_piled h_f0_clock h_f0_groups h_f0_wrong 200 hb h_x3_3 ab_l0 g_a1 h_a6 h_a7 h_a8 h_a9 h_a10 h_a11 h_a12 h_a13⟩
noncomputable def bz_cheapest_100 (k : Nat → Nat → Nat → Nat → Nat → Nat → Nat → Nat → Nat → Nat → Nat → Nat → Nat → Nat → Nat → Nat → Nat → Nat → Bool) (X_x1 X_f0_piled X_f0_clock X_f0_groups X_f0_wrong X_a1 M_a1 F_a1 S_a1 N_a1 X_a6 X_a7 X_a8 X_a9 X_a10 X_a11 X_a12 X_a13 : Nat) : Bool :=
  (ab_vin 12 (ab_sub X_x1 (ab_mul (ab_div X_x1 28) 28)) (ab_str (ab_rd 12 X_a6 (ab_sub X_x1 (ab_mul (ab_div X_x1 28) 28))) (fun X_x4_10 => (ab_le 16 X_x4_10 (k X_x4_10 X_a1 M_a1 F_a1 S_a1 N_a1 X_f0_piled X_f0_clock X_f0_groups X_f0_wrong X_a6 X_a7 X_a8 X_a9 X_a10 X_a11 X_a12 X_a13) (k 14 X_a1 M_a1 F_a1 S_a1 N_a1 X_f0_piled X_f0_clock X_f0_groups X_f0_wrong X_a6 X_a7 X_a8 X_a9 X_a10 X_a11 X_a12 X_a13)))))
theorem sz_cheapest_100 {e : Nat → Int32} {post : Int32 → St2 → Prop} {k : Nat → Nat → Nat → Nat → Nat → Nat → Nat → Nat → Nat → Nat → Nat → Nat → Nat → Nat → Nat → Nat → Nat → Nat → Bool} {X_x1 X_f0_piled X_f0_clock X_f0_groups X_f0_wrong X_a1 M_a1 F_a1 S_a1 N_a1 X_a6 X_a7 X_a8 X_a9 X_a10 X_a11 X_a12 X_a13 : Nat} {x1 f0_op f0_piled f0_clock f0_groups f0_wrong : Int32} {a1 a2 a3 a4 a5 a6 a7 a8 a9 a10 a11 a12 a13 : Nat → Int32} (hb : bz_cheapest_100 k X_x1 X_f0_piled X_f0_clock X_f0_groups X_f0_wrong X_a1 M_a1 F_a1 S_a1 N_a1 X_a6 X_a7 X_a8 X_a9 X_a10 X_a11 X_a12 X_a13 = true) (hk : ∀ ⦃R A M F S N P C G W B6 B7 B8 B9 B10 B11 B12 B13 : Nat⦄ ⦃r op pi cl gr wr : Int32⦄ ⦃c1 c2 c3 c4 c5 c6 c7 c8 c9 c10 c11 c12 c13 : Nat → Int32⦄, k R A M F S N P C G W B6 B7 B8 B9 B10 B11 B12 B13 = true → ab_rv e R r → ab_rg e A M F S N op c1 c2 c3 c4 c5 → ab_rv e P pi → ab_rv e C cl → ab_rv e G gr → ab_rv e W wr → ab_ra e 12 B6 c6 → ab_ra e 12 B7 c7 → ab_ra e 12 B8 c8 → ab_ra e 12 B9 c9 → ab_ra e 12 B10 c10 → ab_ra e 12 B11 c11 → ab_ra e 12 B12 c12 → ab_ra e 12 B13 c13 → post r (op, pi, cl, gr, wr, c1, c2, c3, c4, c5, c6, c7, c8, c9, c10, c11, c12, c13)) (h_x1 : ab_rv e X_x1 x1) (h_f0_piled : ab_rv e X_f0_piled f0_piled) (h_f0_clock : ab_rv e X_f0_clock f0_clock) (h_f0_groups : ab_rv e X_f0_groups f0_groups) (h_f0_wrong : ab_rv e X_f0_wrong f0_wrong) (g_a1 : ab_rg e X_a1 M_a1 F_a1 S_a1 N_a1 f0_op a1 a2 a3 a4 a5) (h_a6 : ab_ra e 12 X_a6 a6) (h_a7 : ab_ra e 12 X_a7 a7) (h_a8 : ab_ra e 12 X_a8 a8) (h_a9 : ab_ra e 12 X_a9 a9) (h_a10 : ab_ra e 12 X_a10 a10) (h_a11 : ab_ra e 12 X_a11 a11) (h_a12 : ab_ra e 12 X_a12 a12) (h_a13 : ab_ra e 12 X_a13 a13) : wX_cheapest_100 post x1 f0_op f0_piled f0_clock f0_groups f0_wrong a1 a2 a3 a4 a5 a6 a7 a8 a9 a10 a11 a12 a13 := by
  refine ab_d12 ?_
  refine ab_vinS hb (by decide) (ab_subS h_x1 (ab_mulS (ab_divS h_x1 ab_l12) ab_l12)) (fun hb => ?_)
  refine ab_letS hb (ab_rdS (by decide) h_a6 (ab_subS h_x1 (ab_mulS (ab_divS h_x1 ab_l12) ab_l12))) ?_
  intro X_x4_10 x4_10 hb h_x4_10
  refine ab_leS hb ab_l0 h_x4_10 (fun hb => ?_) (fun hb => ?_)
  · exact hk hb h_x4_10 g_a1 h_f0_piled h_f0_clock h_f0_groups h_f0_wrong h_a6 h_a7 h_a8 h_a9 h_a10 h_a11 h_a12 h_a13
  · exact hk hb ab_m2 g_a1 h_f0_piled h_f0_clock h_f0_groups h_f0_wrong h_a6 h_a7 h_a8 h_a9 h_a10 h_a11 h_a12 h_a13
noncomputable def bz_cheapest_65 (k : Nat → Nat → Nat → Nat → Nat → Nat → Nat → Nat → Nat → Nat → Nat → Nat → Nat → Nat → Nat → Nat → Nat → Nat → Bool) (X_x1 X_x2 : Nat) (n : Nat) : Nat → Nat → Nat → Nat → Nat → Nat → Nat → Nat → Nat → Nat → Nat → Nat → Nat → Nat → Nat → Nat → Nat → Nat → Nat → Bool :=
  Nat.rec (motive := fun _ => Nat → Nat → Nat → Nat → Nat → Nat → Nat → Nat → Nat → Nat → Nat → Nat → Nat → Nat → Nat → Nat → Nat → Nat → Nat → Bool) (fun _ _ _ _ _ _ _ _ _ _ _ _ _ _ _ _ _ _ _ => false) (fun _ ih => fun X_x3 X_x4 X_f0_piled X_f0_clock X_f0_groups X_f0_wrong X_a1 M_a1 F_a1 S_a1 N_a1 X_a6 X_a7 X_a8 X_a9 X_a10 X_a11 X_a12 X_a13 => (ab_le 28 X_x4 (bz_cheapest_100 k X_x1 X_f0_piled X_f0_clock X_f0_groups X_f0_wrong X_a1 M_a1 F_a1 S_a1 N_a1 X_a6 X_a7 X_a8 X_a9 X_a10 X_a11 X_a12 X_a13) (ab_lt X_x3 16 (bz_cheapest_100 k X_x1 X_f0_piled X_f0_clock X_f0_groups X_f0_wrong X_a1 M_a1 F_a1 S_a1 N_a1 X_a6 X_a7 X_a8 X_a9 X_a10 X_a11 X_a12 X_a13) (ab_up 12 X_a7 X_x3 17 (fun X_a7_14 => (bz_relax (fun X_am861_23 M_am861_23 F_am861_23 S_am861_23 N_am861_23 X_f0_piled_17 X_f0_clock_18 X_f0_groups_19 X_f0_wrong_20 X_am866_38 X_am867_41 X_am868_44 X_am869_47 X_am8610_50 X_am8611_53 X_am8612_56 X_am8613_59 => (bz_nearest (fun X_r_60 => (ab_str (ab_add X_x4 17) (fun X_x4_61 => (ih X_r_60 X_x4_61 X_f0_piled_17 X_f0_clock_18 X_f0_groups_19 X_f0_wrong_20 X_am861_23 M_am861_23 F_am861_23 S_am861_23 N_am861_23 X_am866_38 X_am867_41 X_am868_44 X_am869_47 X_am8610_50 X_am8611_53 X_am8612_56 X_am8613_59)))) X_am861_23 M_am861_23 F_am861_23 S_am861_23 N_am861_23 X_f0_piled_17 X_f0_clock_18 X_f0_groups_19 X_f0_wrong_20 X_am866_38 X_am867_41 X_am868_44 X_am869_47 X_am8610_50 X_am8611_53 X_am8612_56 X_am8613_59)) X_a1 M_a1 F_a1 S_a1 N_a1 X_f0_piled X_f0_clock X_f0_groups X_f0_wrong X_a6 X_a7_14 X_a8 X_a9 X_a10 X_a11 X_a12 X_a13 X_x3 X_x2)))))) n
theorem sz_cheapest_65 {e : Nat → Int32} {post : Int32 → St2 → Prop} {k : Nat → Nat → Nat → Nat → Nat → Nat → Nat → Nat → Nat → Nat → Nat → Nat → Nat → Nat → Nat → Nat → Nat → Nat → Bool} {X_x1 X_x2 : Nat} {x1 x2 : Int32} (hk : ∀ ⦃R A M F S N P C G W B6 B7 B8 B9 B10 B11 B12 B13 : Nat⦄ ⦃r op pi cl gr wr : Int32⦄ ⦃c1 c2 c3 c4 c5 c6 c7 c8 c9 c10 c11 c12 c13 : Nat → Int32⦄, k R A M F S N P C G W B6 B7 B8 B9 B10 B11 B12 B13 = true → ab_rv e R r → ab_rg e A M F S N op c1 c2 c3 c4 c5 → ab_rv e P pi → ab_rv e C cl → ab_rv e G gr → ab_rv e W wr → ab_ra e 12 B6 c6 → ab_ra e 12 B7 c7 → ab_ra e 12 B8 c8 → ab_ra e 12 B9 c9 → ab_ra e 12 B10 c10 → ab_ra e 12 B11 c11 → ab_ra e 12 B12 c12 → ab_ra e 12 B13 c13 → post r (op, pi, cl, gr, wr, c1, c2, c3, c4, c5, c6, c7, c8, c9, c10, c11, c12, c13)) (h_x1 : ab_rv e X_x1 x1) (h_x2 : ab_rv e X_x2 x2) : ∀ (n : Nat) ⦃X_x3 X_x4 X_f0_piled X_f0_clock X_f0_groups X_f0_wrong X_a1 M_a1 F_a1 S_a1 N_a1 X_a6 X_a7 X_a8 X_a9 X_a10 X_a11 X_a12 X_a13 : Nat⦄ ⦃x3 x4 f0_op f0_piled f0_clock f0_groups f0_wrong : Int32⦄ ⦃a1 a2 a3 a4 a5 a6 a7 a8 a9 a10 a11 a12 a13 : Nat → Int32⦄, bz_cheapest_65 k X_x1 X_x2 n X_x3 X_x4 X_f0_piled X_f0_clock X_f0_groups X_f0_wrong X_a1 M_a1 F_a1 S_a1 N_a1 X_a6 X_a7 X_a8 X_a9 X_a10 X_a11 X_a12 X_a13 = true → ab_rv e X_x3 x3 → ab_rv e X_x4 x4 → ab_rv e X_f0_piled f0_piled → ab_rv e X_f0_clock f0_clock → ab_rv e X_f0_groups f0_groups → ab_rv e X_f0_wrong f0_wrong → ab_rg e X_a1 M_a1 F_a1 S_a1 N_a1 f0_op a1 a2 a3 a4 a5 → ab_ra e 12 X_a6 a6 → ab_ra e 12 X_a7 a7 → ab_ra e 12 X_a8 a8 → ab_ra e 12 X_a9 a9 → ab_ra e 12 X_a10 a10 → ab_ra e 12 X_a11 a11 → ab_ra e 12 X_a12 a12 → ab_ra e 12 X_a13 a13 → wX_cheapest_65 post x1 x2 n x3 x4 f0_op f0_piled f0_clock f0_groups f0_wrong a1 a2 a3 a4 a5 a6 a7 a8 a9 a10 a11 a12 a13 := by
  intro n
  induction n with
  | zero =>
    intro X_x3 X_x4 X_f0_piled X_f0_clock X_f0_groups X_f0_wrong X_a1 M_a1 F_a1 S_a1 N_a1 X_a6 X_a7 X_a8 X_a9 X_a10 X_a11 X_a12 X_a13 x3 x4 f0_op f0_piled f0_clock f0_groups f0_wrong a1 a2 a3 a4 a5 a6 a7 a8 a9 a10 a11 a12 a13 hb h_x3 h_x4 h_f0_piled h_f0_clock h_f0_groups h_f0_wrong g_a1 h_a6 h_a7 h_a8 h_a9 h_a10 h_a11 h_a12 h_a13
    exact absurd (show false = true from hb) (by decide)
  | succ n ih =>
    intro X_x3 X_x4 X_f0_piled X_f0_clock X_f0_groups X_f0_wrong X_a1 M_a1 F_a1 S_a1 N_a1 X_a6 X_a7 X_a8 X_a9 X_a10 X_a11 X_a12 X_a13 x3 x4 f0_op f0_piled f0_clock f0_groups f0_wrong a1 a2 a3 a4 a5 a6 a7 a8 a9 a10 a11 a12 a13 hb h_x3 h_x4 h_f0_piled h_f0_clock h_f0_groups h_f0_wrong g_a1 h_a6 h_a7 h_a8 h_a9 h_a10 h_a11 h_a12 h_a13
    refine ab_leS hb ab_l12 h_x4 (fun hb => ?_) (fun hb => ?_)
    · exact sz_cheapest_100 hb hk h_x1 h_f0_piled h_f0_clock h_f0_groups h_f0_wrong g_a1 h_a6 h_a7 h_a8 h_a9 h_a10 h_a11 h_a12 h_a13
    · refine ab_ltS hb h_x3 ab_l0 (fun hb => ?_) (fun hb => ?_)
      · exact sz_cheapest_100 hb hk h_x1 h_f0_piled h_f0_clock h_f0_groups h_f0_wrong g_a1 h_a6 h_a7 h_a8 h_a9 h_a10 h_a11 h_a12 h_a13
      · refine ab_upS hb (by decide) h_a7 h_x3 ab_l1 ?_
        intro X_a7_14 a7_14 hb h_a7_14
        refine sz_relax hb ?_ g_a1 h_f0_piled h_f0_clock h_f0_groups h_f0_wrong h_a6 h_a7_14 h_a8 h_a9 h_a10 h_a11 h_a12 h_a13 h_x3 h_x2
        intro X_am861_23 M_am861_23 F_am861_23 S_am861_23 N_am861_23 X_f0_piled_17 X_f0_clock_18 X_f0_groups_19 X_f0_wrong_20 X_am866_38 X_am867_41 X_am868_44 X_am869_47 X_am8610_50 X_am8611_53 X_am8612_56 X_am8613_59 f0_op_16 f0_piled_17 f0_clock_18 f0_groups_19 f0_wrong_20 am861_23 am862_26 am863_29 am864_32 am865_35 am866_38 am867_41 am868_44 am869_47 am8610_50 am8611_53 am8612_56 am8613_59 hb g_am861_23 h_f0_piled_17 h_f0_clock_18 h_f0_groups_19 h_f0_wrong_20 h_am866_38 h_am867_41 h_am868_44 h_am869_47 h_am8610_50 h_am8611_53 h_am8612_56 h_am8613_59
        refine sz_nearest hb ?_ g_am861_23 h_f0_piled_17 h_f0_clock_18 h_f0_groups_19 h_f0_wrong_20 h_am866_38 h_am867_41 h_am868_44 h_am869_47 h_am8610_50 h_am8611_53 h_am8612_56 h_am8613_59
        intro X_r_60 r_60 hb h_r_60
        refine ab_letS hb (ab_addS h_x4 ab_l1) ?_
        intro X_x4_61 x4_61 hb h_x4_61
        exact ih hb h_r_60 h_x4_61 h_f0_piled_17 h_f0_clock_18 h_f0_groups_19 h_f0_wrong_20 g_am861_23 h_am866_38 h_am867_41 h_am868_44 h_am869_47 h_am8610_50 h_am8611_53 h_am8612_56 h_am8613_59
noncomputable def bz_cheapest_43 (k : Nat → Nat → Nat → Nat → Nat → Nat → Nat → Nat → Nat → Nat → Nat → Nat → Nat → Nat → Nat → Nat → Nat → Nat → Bool) (J19 : Nat → Nat → Nat → Nat → Nat → Nat → Nat → Nat → Nat → Nat → Nat → Nat → Nat → Nat → Bool) (X_x1 X_x2 X_x3 X_z0 X_z1 X_f0_piled X_f0_clock X_f0_groups X_f0_wrong X_a1 M_a1 F_a1 S_a1 N_a1 X_a6 X_a7 X_a8 X_a9 X_a10 X_a11 X_a12 X_a13 : Nat) : Bool :=
  (ab_up 12 X_a6 X_z1 X_z0 (fun X_a6_65 => (ab_up 12 X_a7 X_x3 16 (fun X_a7_67 => (ab_str (ab_add X_x3 17) (fun X_x3_68 => (J19 X_x3_68 X_a1 M_a1 F_a1 S_a1 N_a1 X_a6_65 X_a7_67 X_a8 X_a9 X_a10 X_a11 X_a12 X_a13)))))))
theorem sz_cheapest_43 {e : Nat → Int32} {post : Int32 → St2 → Prop} {k : Nat → Nat → Nat → Nat → Nat → Nat → Nat → Nat → Nat → Nat → Nat → Nat → Nat → Nat → Nat → Nat → Nat → Nat → Bool} {J19 : Nat → Nat → Nat → Nat → Nat → Nat → Nat → Nat → Nat → Nat → Nat → Nat → Nat → Nat → Bool} {CJ19 : Int32 → (Nat → Int32) → (Nat → Int32) → (Nat → Int32) → (Nat → Int32) → (Nat → Int32) → (Nat → Int32) → (Nat → Int32) → (Nat → Int32) → (Nat → Int32) → (Nat → Int32) → (Nat → Int32) → (Nat → Int32) → (Nat → Int32) → Prop} {X_x1 X_x2 X_x3 X_z0 X_z1 X_f0_piled X_f0_clock X_f0_groups X_f0_wrong X_a1 M_a1 F_a1 S_a1 N_a1 X_a6 X_a7 X_a8 X_a9 X_a10 X_a11 X_a12 X_a13 : Nat} {x1 x2 x3 z0 z1 f0_op f0_piled f0_clock f0_groups f0_wrong : Int32} {a1 a2 a3 a4 a5 a6 a7 a8 a9 a10 a11 a12 a13 : Nat → Int32} (hb : bz_cheapest_43 k J19 X_x1 X_x2 X_x3 X_z0 X_z1 X_f0_piled X_f0_clock X_f0_groups X_f0_wrong X_a1 M_a1 F_a1 S_a1 N_a1 X_a6 X_a7 X_a8 X_a9 X_a10 X_a11 X_a12 X_a13 = true) (hk : ∀ ⦃R A M F S N P C G W B6 B7 B8 B9 B10 B11 B12 B13 : Nat⦄ ⦃r op pi cl gr wr : Int32⦄ ⦃c1 c2 c3 c4 c5 c6 c7 c8 c9 c10 c11 c12 c13 : Nat → Int32⦄, k R A M F S N P C G W B6 B7 B8 B9 B10 B11 B12 B13 = true → ab_rv e R r → ab_rg e A M F S N op c1 c2 c3 c4 c5 → ab_rv e P pi → ab_rv e C cl → ab_rv e G gr → ab_rv e W wr → ab_ra e 12 B6 c6 → ab_ra e 12 B7 c7 → ab_ra e 12 B8 c8 → ab_ra e 12 B9 c9 → ab_ra e 12 B10 c10 → ab_ra e 12 B11 c11 → ab_ra e 12 B12 c12 → ab_ra e 12 B13 c13 → post r (op, pi, cl, gr, wr, c1, c2, c3, c4, c5, c6, c7, c8, c9, c10, c11, c12, c13)) (hJ19 : ∀ ⦃X_x3 X_a1 M_a1 F_a1 S_a1 N_a1 X_a6 X_a7 X_a8 X_a9 X_a10 X_a11 X_a12 X_a13 : Nat⦄ ⦃x3 : Int32⦄ ⦃a1 a2 a3 a4 a5 a6 a7 a8 a9 a10 a11 a12 a13 : Nat → Int32⦄, J19 X_x3 X_a1 M_a1 F_a1 S_a1 N_a1 X_a6 X_a7 X_a8 X_a9 X_a10 X_a11 X_a12 X_a13 = true → ab_rv e X_x3 x3 → ab_rg e X_a1 M_a1 F_a1 S_a1 N_a1 f0_op a1 a2 a3 a4 a5 → ab_ra e 12 X_a6 a6 → ab_ra e 12 X_a7 a7 → ab_ra e 12 X_a8 a8 → ab_ra e 12 X_a9 a9 → ab_ra e 12 X_a10 a10 → ab_ra e 12 X_a11 a11 → ab_ra e 12 X_a12 a12 → ab_ra e 12 X_a13 a13 → CJ19 x3 a1 a2 a3 a4 a5 a6 a7 a8 a9 a10 a11 a12 a13) (h_x1 : ab_rv e X_x1 x1) (h_x2 : ab_rv e X_x2 x2) (h_x3 : ab_rv e X_x3 x3) (h_z0 : ab_rv e X_z0 z0) (h_z1 : ab_rv e X_z1 z1) (h_f0_piled : ab_rv e X_f0_piled f0_piled) (h_f0_clock : ab_rv e X_f0_clock f0_clock) (h_f0_groups : ab_rv e X_f0_groups f0_groups) (h_f0_wrong : ab_rv e X_f0_wrong f0_wrong) (g_a1 : ab_rg e X_a1 M_a1 F_a1 S_a1 N_a1 f0_op a1 a2 a3 a4 a5) (h_a6 : ab_ra e 12 X_a6 a6) (h_a7 : ab_ra e 12 X_a7 a7) (h_a8 : ab_ra e 12 X_a8 a8) (h_a9 : ab_ra e 12 X_a9 a9) (h_a10 : ab_ra e 12 X_a10 a10) (h_a11 : ab_ra e 12 X_a11 a11) (h_a12 : ab_ra e 12 X_a12 a12) (h_a13 : ab_ra e 12 X_a13 a13) : wX_cheapest_43 post CJ19 x1 x2 x3 z0 z1 f0_op f0_piled f0_clock f0_groups f0_wrong a1 a2 a3 a4 a5 a6 a7 a8 a9 a10 a11 a12 a13 := by
  refine ab_upS hb (by decide) h_a6 h_z1 h_z0 ?_
  intro X_a6_65 a6_65 hb h_a6_65
  refine ab_upS hb (by decide) h_a7 h_x3 ab_l0 ?_
  intro X_a7_67 a7_67 hb h_a7_67
  refine ab_letS hb (ab_addS h_x3 ab_l1) ?_
  intro X_x3_68 x3_68 hb h_x3_68
  exact hJ19 hb h_x3_68 g_a1 h_a6_65 h_a7_67 h_a8 h_a9 h_a10 h_a11 h_a12 h_a13
noncomputable def bz_cheapest_19 (k : Nat → Nat → Nat → Nat → Nat → Nat → Nat → Nat → Nat → Nat → Nat → Nat → Nat → Nat → Nat → Nat → Nat → Nat → Bool) (X_x1 X_x2 X_f0_piled X_f0_clock X_f0_groups X_f0_wrong : Nat) (n : Nat) : Nat → Nat → Nat → Nat → Nat → Nat → Nat → Nat → Nat → Nat → Nat → Nat → Nat → Nat → Bool :=
  Nat.rec (motive := fun _ => Nat → Nat → Nat → Nat → Nat → Nat → Nat → Nat → Nat → Nat → Nat → Nat → Nat → Nat → Bool) (fun _ _ _ _ _ _ _ _ _ _ _ _ _ _ => false) (fun _ ih => fun X_x3 X_a1 M_a1 F_a1 S_a1 N_a1 X_a6 X_a7 X_a8 X_a9 X_a10 X_a11 X_a12 X_a13 => (ab_le 28 X_x3 (bz_nearest (fun X_r_6 => (bz_cheapest_65 k X_x1 X_x2 200 X_r_6 16 X_f0_piled X_f0_clock X_f0_groups X_f0_wrong X_a1 M_a1 F_a1 S_a1 N_a1 X_a6 X_a7 X_a8 X_a9 X_a10 X_a11 X_a12 X_a13)) X_a1 M_a1 F_a1 S_a1 N_a1 X_f0_piled X_f0_clock X_f0_groups X_f0_wrong X_a6 X_a7 X_a8 X_a9 X_a10 X_a11 X_a12 X_a13) (ab_eq X_x3 (ab_div X_x1 28) (bz_cheapest_43 k ih X_x1 X_x2 X_x3 16 X_x3 X_f0_piled X_f0_clock X_f0_groups X_f0_wrong X_a1 M_a1 F_a1 S_a1 N_a1 X_a6 X_a7 X_a8 X_a9 X_a10 X_a11 X_a12 X_a13) (bz_cheapest_43 k ih X_x1 X_x2 X_x3 15 X_x3 X_f0_piled X_f0_clock X_f0_groups X_f0_wrong X_a1 M_a1 F_a1 S_a1 N_a1 X_a6 X_a7 X_a8 X_a9 X_a10 X_a11 X_a12 X_a13)))) n
theorem sz_cheapest_19 {e : Nat → Int32} {post : Int32 → St2 → Prop} {k : Nat → Nat → Nat → Nat → Nat → Nat → Nat → Nat → Nat → Nat → Nat → Nat → Nat → Nat → Nat → Nat → Nat → Nat → Bool} {X_x1 X_x2 X_f0_piled X_f0_clock X_f0_groups X_f0_wrong : Nat} {x1 x2 f0_op f0_piled f0_clock f0_groups f0_wrong : Int32} (hk : ∀ ⦃R A M F S N P C G W B6 B7 B8 B9 B10 B11 B12 B13 : Nat⦄ ⦃r op pi cl gr wr : Int32⦄ ⦃c1 c2 c3 c4 c5 c6 c7 c8 c9 c10 c11 c12 c13 : Nat → Int32⦄, k R A M F S N P C G W B6 B7 B8 B9 B10 B11 B12 B13 = true → ab_rv e R r → ab_rg e A M F S N op c1 c2 c3 c4 c5 → ab_rv e P pi → ab_rv e C cl → ab_rv e G gr → ab_rv e W wr → ab_ra e 12 B6 c6 → ab_ra e 12 B7 c7 → ab_ra e 12 B8 c8 → ab_ra e 12 B9 c9 → ab_ra e 12 B10 c10 → ab_ra e 12 B11 c11 → ab_ra e 12 B12 c12 → ab_ra e 12 B13 c13 → post r (op, pi, cl, gr, wr, c1, c2, c3, c4, c5, c6, c7, c8, c9, c10, c11, c12, c13)) (h_x1 : ab_rv e X_x1 x1) (h_x2 : ab_rv e X_x2 x2) (h_f0_piled : ab_rv e X_f0_piled f0_piled) (h_f0_clock : ab_rv e X_f0_clock f0_clock) (h_f0_groups : ab_rv e X_f0_groups f0_groups) (h_f0_wrong : ab_rv e X_f0_wrong f0_wrong) : ∀ (n : Nat) ⦃X_x3 X_a1 M_a1 F_a1 S_a1 N_a1 X_a6 X_a7 X_a8 X_a9 X_a10 X_a11 X_a12 X_a13 : Nat⦄ ⦃x3 : Int32⦄ ⦃a1 a2 a3 a4 a5 a6 a7 a8 a9 a10 a11 a12 a13 : Nat → Int32⦄, bz_cheapest_19 k X_x1 X_x2 X_f0_piled X_f0_clock X_f0_groups X_f0_wrong n X_x3 X_a1 M_a1 F_a1 S_a1 N_a1 X_a6 X_a7 X_a8 X_a9 X_a10 X_a11 X_a12 X_a13 = true → ab_rv e X_x3 x3 → ab_rg e X_a1 M_a1 F_a1 S_a1 N_a1 f0_op a1 a2 a3 a4 a5 → ab_ra e 12 X_a6 a6 → ab_ra e 12 X_a7 a7 → ab_ra e 12 X_a8 a8 → ab_ra e 12 X_a9 a9 → ab_ra e 12 X_a10 a10 → ab_ra e 12 X_a11 a11 → ab_ra e 12 X_a12 a12 → ab_ra e 12 X_a13 a13 → wX_cheapest_19 post x1 x2 f0_op f0_piled f0_clock f0_groups f0_wrong n x3 a1 a2 a3 a4 a5 a6 a7 a8 a9 a10 a11 a12 a13 := by
  intro n
  induction n with
  | zero =>
    intro X_x3 X_a1 M_a1 F_a1 S_a1 N_a1 X_a6 X_a7 X_a8 X_a9 X_a10 X_a11 X_a12 X_a13 x3 a1 a2 a3 a4 a5 a6 a7 a8 a9 a10 a11 a12 a13 hb h_x3 g_a1 h_a6 h_a7 h_a8 h_a9 h_a10 h_a11 h_a12 h_a13
    exact absurd (show false = true from hb) (by decide)
  | succ n ih =>
    intro X_x3 X_a1 M_a1 F_a1 S_a1 N_a1 X_a6 X_a7 X_a8 X_a9 X_a10 X_a11 X_a12 X_a13 x3 a1 a2 a3 a4 a5 a6 a7 a8 a9 a10 a11 a12 a13 hb h_x3 g_a1 h_a6 h_a7 h_a8 h_a9 h_a10 h_a11 h_a12 h_a13
    refine ab_leS hb ab_l12 h_x3 (fun hb => ?_) (fun hb => ?_)
    · refine sz_nearest hb ?_ g_a1 h_f0_piled h_f0_clock h_f0_groups h_f0_wrong h_a6 h_a7 h_a8 h_a9 h_a10 h_a11 h_a12 h_a13
      intro X_r_6 r_6 hb h_r_6
      exact ⟨200, sz_cheapest_65 hk h_x1 h_x2 200 hb h_r_6 ab_l0 h_f0_piled h_f0_clock h_f0_groups h_f0_wrong g_a1 h_a6 h_a7 h_a8 h_a9 h_a10 h_a11 h_a12 h_a13⟩
    · refine ab_d12 ?_
      refine ab_eqS hb h_x3 (ab_divS h_x1 ab_l12) (fun hb => ?_) (fun hb => ?_)
      · exact sz_cheapest_43 hb hk ih h_x1 h_x2 h_x3 ab_l0 h_x3 h_f0_piled h_f0_clock h_f0_groups h_f0_wrong g_a1 h_a6 h_a7 h_a8 h_a9 h_a10 h_a11 h_a12 h_a13
      · exact sz_cheapest_43 hb hk ih h_x1 h_x2 h_x3 ab_m1 h_x3 h_f0_piled h_f0_clock h_f0_groups h_f0_wrong g_a1 h_a6 h_a7 h_a8 h_a9 h_a10 h_a11 h_a12 h_a13
noncomputable def bz_cheapest (k : Nat → Nat → Nat → Nat → Nat → Nat → Nat → Nat → Nat → Nat → Nat → Nat → Nat → Nat → Nat → Nat → Nat → Nat → Bool) (X_a1 M_a1 F_a1 S_a1 N_a1 X_f0_piled X_f0_clock X_f0_groups X_f0_wrong X_a6 X_a7 X_a8 X_a9 X_a10 X_a11 X_a12 X_a13 X_p0 X_p1 : Nat) : Bool :=
  (bz_areEnds (fun X_r_1 => (ab_eq X_r_1 16 (k 15 X_a1 M_a1 F_a1 S_a1 N_a1 X_f0_piled X_f0_clock X_f0_groups X_f0_wrong X_a6 X_a7 X_a8 X_a9 X_a10 X_a11 X_a12 X_a13) (bz_isType (fun X_r_3 => (ab_eq X_r_3 16 (k 15 X_a1 M_a1 F_a1 S_a1 N_a1 X_f0_piled X_f0_clock X_f0_groups X_f0_wrong X_a6 X_a7 X_a8 X_a9 X_a10 X_a11 X_a12 X_a13) (bz_cheapest_19 k X_p0 X_p1 X_f0_piled X_f0_clock X_f0_groups X_f0_wrong 200 16 X_a1 M_a1 F_a1 S_a1 N_a1 X_a6 X_a7 X_a8 X_a9 X_a10 X_a11 X_a12 X_a13))) X_p1))) X_a1 M_a1 F_a1 S_a1 N_a1 X_f0_piled X_f0_clock X_f0_groups X_f0_wrong X_a6 X_a7 X_a8 X_a9 X_a10 X_a11 X_a12 X_a13 X_p0)
theorem sz_cheapest {e : Nat → Int32} {post : Int32 → St2 → Prop} {k : Nat → Nat → Nat → Nat → Nat → Nat → Nat → Nat → Nat → Nat → Nat → Nat → Nat → Nat → Nat → Nat → Nat → Nat → Bool} {X_a1 M_a1 F_a1 S_a1 N_a1 X_f0_piled X_f0_clock X_f0_groups X_f0_wrong X_a6 X_a7 X_a8 X_a9 X_a10 X_a11 X_a12 X_a13 X_p0 X_p1 : Nat} {f0_op f0_piled f0_clock f0_groups f0_wrong p0 p1 : Int32} {a1 a2 a3 a4 a5 a6 a7 a8 a9 a10 a11 a12 a13 : Nat → Int32} (hb : bz_cheapest k X_a1 M_a1 F_a1 S_a1 N_a1 X_f0_piled X_f0_clock X_f0_groups X_f0_wrong X_a6 X_a7 X_a8 X_a9 X_a10 X_a11 X_a12 X_a13 X_p0 X_p1 = true) (hk : ∀ ⦃R A M F S N P C G W B6 B7 B8 B9 B10 B11 B12 B13 : Nat⦄ ⦃r op pi cl gr wr : Int32⦄ ⦃c1 c2 c3 c4 c5 c6 c7 c8 c9 c10 c11 c12 c13 : Nat → Int32⦄, k R A M F S N P C G W B6 B7 B8 B9 B10 B11 B12 B13 = true → ab_rv e R r → ab_rg e A M F S N op c1 c2 c3 c4 c5 → ab_rv e P pi → ab_rv e C cl → ab_rv e G gr → ab_rv e W wr → ab_ra e 12 B6 c6 → ab_ra e 12 B7 c7 → ab_ra e 12 B8 c8 → ab_ra e 12 B9 c9 → ab_ra e 12 B10 c10 → ab_ra e 12 B11 c11 → ab_ra e 12 B12 c12 → ab_ra e 12 B13 c13 → post r (op, pi, cl, gr, wr, c1, c2, c3, c4, c5, c6, c7, c8, c9, c10, c11, c12, c13)) (g_a1 : ab_rg e X_a1 M_a1 F_a1 S_a1 N_a1 f0_op a1 a2 a3 a4 a5) (h_f0_piled : ab_rv e X_f0_piled f0_piled) (h_f0_clock : ab_rv e X_f0_clock f0_clock) (h_f0_groups : ab_rv e X_f0_groups f0_groups) (h_f0_wrong : ab_rv e X_f0_wrong f0_wrong) (h_a6 : ab_ra e 12 X_a6 a6) (h_a7 : ab_ra e 12 X_a7 a7) (h_a8 : ab_ra e 12 X_a8 a8) (h_a9 : ab_ra e 12 X_a9 a9) (h_a10 : ab_ra e 12 X_a10 a10) (h_a11 : ab_ra e 12 X_a11 a11) (h_a12 : ab_ra e 12 X_a12 a12) (h_a13 : ab_ra e 12 X_a13 a13) (h_p0 : ab_rv e X_p0 p0) (h_p1 : ab_rv e X_p1 p1) : wpX_cheapest post (f0_op, f0_piled, f0_clock, f0_groups, f0_wrong, a1, a2, a3, a4, a5, a6, a7, a8, a9, a10, a11, a12, a13) p0 p1 := by
  unfold wpX_cheapest
  refine sz_areEnds hb ?_ g_a1 h_f0_piled h_f0_clock h_f0_groups h_f0_wrong h_a6 h_a7 h_a8 h_a9 h_a10 h_a11 h_a12 h_a13 h_p0
  intro X_r_1 r_1 hb h_r_1
  refine ab_eqS hb h_r_1 ab_l0 (fun hb => ?_) (fun hb => ?_)
  · exact hk hb ab_m1 g_a1 h_f0_piled h_f0_clock h_f0_groups h_f0_wrong h_a6 h_a7 h_a8 h_a9 h_a10 h_a11 h_a12 h_a13
  · refine sz_isType hb ?_ h_p1
    intro X_r_3 r_3 hb h_r_3
    refine ab_eqS hb h_r_3 ab_l0 (fun hb => ?_) (fun hb => ?_)
    · exact hk hb ab_m1 g_a1 h_f0_piled h_f0_clock h_f0_groups h_f0_wrong h_a6 h_a7 h_a8 h_a9 h_a10 h_a11 h_a12 h_a13
    · exact ⟨200, sz_cheapest_19 hk h_p0 h_p1 h_f0_piled h_f0_clock h_f0_groups h_f0_wrong 200 hb ab_l0 g_a1 h_a6 h_a7 h_a8 h_a9 h_a10 h_a11 h_a12 h_a13⟩
end
section
noncomputable def bz_enter (k : Nat → Nat → Nat → Nat → Nat → Nat → Nat → Nat → Nat → Nat → Nat → Nat → Nat → Nat → Nat → Nat → Nat → Bool) (X_a1 M_a1 F_a1 S_a1 N_a1 X_f0_piled X_f0_clock X_f0_groups X_f0_wrong X_a6 X_a7 X_a8 X_a9 X_a10 X_a11 X_a12 X_a13 X_p0 X_p1 : Nat) : Bool :=
  (ab_up 12 X_a9 X_p0 X_f0_clock (fun X_a9_2 => (ab_up 12 X_a10 X_p0 X_f0_clock (fun X_a10_4 => (ab_str (ab_add X_f0_clock 17) (fun X_f_5 => (ab_up 12 X_a11 X_p0 X_p1 (fun X_a11_7 => (bz_nodeAt (fun X_r_8 => (ab_vin 340 (ab_add X_r_8 19) (ab_up 12 X_a12 X_p0 (ab_rdc X_a1 (ab_add X_r_8 19)) (fun X_a12_11 => (ab_up 12 X_a13 X_f0_piled X_p0 (fun X_a13_13 => (ab_str (ab_add X_f0_piled 17) (fun X_f_14 => (k X_a1 M_a1 F_a1 S_a1 N_a1 X_f_14 X_f_5 X_f0_groups X_f0_wrong X_a6 X_a7 X_a8 X_a9_2 X_a10_4 X_a11_7 X_a12_11 X_a13_13))))))))) X_p0)))))))))
theorem sz_enter {e : Nat → Int32} {post : St2 → Prop} {k : Nat → Nat → Nat → Nat → Nat → Nat → Nat → Nat → Nat → Nat → Nat → Nat → Nat → Nat → Nat → Nat → Nat → Bool} {X_a1 M_a1 F_a1 S_a1 N_a1 X_f0_piled X_f0_clock X_f0_groups X_f0_wrong X_a6 X_a7 X_a8 X_a9 X_a10 X_a11 X_a12 X_a13 X_p0 X_p1 : Nat} {f0_op f0_piled f0_clock f0_groups f0_wrong p0 p1 : Int32} {a1 a2 a3 a4 a5 a6 a7 a8 a9 a10 a11 a12 a13 : Nat → Int32} (hb : bz_enter k X_a1 M_a1 F_a1 S_a1 N_a1 X_f0_piled X_f0_clock X_f0_groups X_f0_wrong X_a6 X_a7 X_a8 X_a9 X_a10 X_a11 X_a12 X_a13 X_p0 X_p1 = true) (hk : ∀ ⦃A M F S N P C G W B6 B7 B8 B9 B10 B11 B12 B13 : Nat⦄ ⦃op pi cl gr wr : Int32⦄ ⦃c1 c2 c3 c4 c5 c6 c7 c8 c9 c10 c11 c12 c13 : Nat → Int32⦄, k A M F S N P C G W B6 B7 B8 B9 B10 B11 B12 B13 = true → ab_rg e A M F S N op c1 c2 c3 c4 c5 → ab_rv e P pi → ab_rv e C cl → ab_rv e G gr → ab_rv e W wr → ab_ra e 12 B6 c6 → ab_ra e 12 B7 c7 → ab_ra e 12 B8 c8 → ab_ra e 12 B9 c9 → ab_ra e 12 B10 c10 → ab_ra e 12 B11 c11 → ab_ra e 12 B12 c12 → ab_ra e 12 B13 c13 → post (op, pi, cl, gr, wr, c1, c2, c3, c4, c5, c6, c7, c8, c9, c10, c11, c12, c13)) (g_a1 : ab_rg e X_a1 M_a1 F_a1 S_a1 N_a1 f0_op a1 a2 a3 a4 a5) (h_f0_piled : ab_rv e X_f0_piled f0_piled) (h_f0_clock : ab_rv e X_f0_clock f0_clock) (h_f0_groups : ab_rv e X_f0_groups f0_groups) (h_f0_wrong : ab_rv e X_f0_wrong f0_wrong) (h_a6 : ab_ra e 12 X_a6 a6) (h_a7 : ab_ra e 12 X_a7 a7) (h_a8 : ab_ra e 12 X_a8 a8) (h_a9 : ab_ra e 12 X_a9 a9) (h_a10 : ab_ra e 12 X_a10 a10) (h_a11 : ab_ra e 12 X_a11 a11) (h_a12 : ab_ra e 12 X_a12 a12) (h_a13 : ab_ra e 12 X_a13 a13) (h_p0 : ab_rv e X_p0 p0) (h_p1 : ab_rv e X_p1 p1) : wpX_enter post (f0_op, f0_piled, f0_clock, f0_groups, f0_wrong, a1, a2, a3, a4, a5, a6, a7, a8, a9, a10, a11, a12, a13) p0 p1 := by
  refine ab_upS hb (by decide) h_a9 h_p0 h_f0_clock ?_
  intro X_a9_2 a9_2 hb h_a9_2
  refine ab_upS hb (by decide) h_a10 h_p0 h_f0_clock ?_
  intro X_a10_4 a10_4 hb h_a10_4
  refine ab_letS hb (ab_addS h_f0_clock ab_l1) ?_
  intro X_f_5 f_5 hb h_f_5
  refine ab_upS hb (by decide) h_a11 h_p0 h_p1 ?_
  intro X_a11_7 a11_7 hb h_a11_7
  refine sz_nodeAt hb ?_ h_p0
  intro X_r_8 r_8 hb h_r_8
  refine ab_vinS hb (by decide) (ab_addS h_r_8 ab_l3) (fun hb => ?_)
  refine ab_upS hb (by decide) h_a12 h_p0 (ab_rdcS g_a1.1 (ab_addS h_r_8 ab_l3)) ?_
  intro X_a12_11 a12_11 hb h_a12_11
  refine ab_upS hb (by decide) h_a13 h_f0_piled h_p0 ?_
  intro X_a13_13 a13_13 hb h_a13_13
  refine ab_letS hb (ab_addS h_f0_piled ab_l1) ?_
  intro X_f_14 f_14 hb h_f_14
  exact hk hb g_a1 h_f_14 h_f_5 h_f0_groups h_f0_wrong h_a6 h_a7 h_a8 h_a9_2 h_a10_4 h_a11_7 h_a12_11 h_a13_13
noncomputable def bz_leave_34 (k : Nat → Nat → Nat → Nat → Nat → Nat → Nat → Nat → Nat → Nat → Nat → Nat → Nat → Nat → Nat → Nat → Nat → Bool) (X_x1 X_f0_clock X_f0_groups X_f0_wrong : Nat) (n : Nat) : Nat → Nat → Nat → Nat → Nat → Nat → Nat → Nat → Nat → Nat → Nat → Nat → Nat → Nat → Nat → Bool :=
  Nat.rec (motive := fun _ => Nat → Nat → Nat → Nat → Nat → Nat → Nat → Nat → Nat → Nat → Nat → Nat → Nat → Nat → Nat → Bool) (fun _ _ _ _ _ _ _ _ _ _ _ _ _ _ _ => false) (fun _ ih => fun X_x3 X_f0_piled X_a1 M_a1 F_a1 S_a1 N_a1 X_a6 X_a7 X_a8 X_a9 X_a10 X_a11 X_a12 X_a13 => (ab_eq X_x3 16 (k X_a1 M_a1 F_a1 S_a1 N_a1 X_f0_piled X_f0_clock X_f0_groups X_f0_wrong X_a6 X_a7 X_a8 X_a9 X_a10 X_a11 X_a12 X_a13) (ab_str (ab_sub X_f0_piled 17) (fun X_f_18 => (ab_vin 12 X_f_18 (ab_up 12 X_a7 (ab_rd 12 X_a13 X_f_18) 17 (fun X_a7_21 => (ab_vin 12 X_f_18 (ab_eq (ab_rd 12 X_a13 X_f_18) X_x1 (ih 16 X_f_18 X_a1 M_a1 F_a1 S_a1 N_a1 X_a6 X_a7_21 X_a8 X_a9 X_a10 X_a11 X_a12 X_a13) (ih 17 X_f_18 X_a1 M_a1 F_a1 S_a1 N_a1 X_a6 X_a7_21 X_a8 X_a9 X_a10 X_a11 X_a12 X_a13)))))))))) n
theorem sz_leave_34 {e : Nat → Int32} {post : St2 → Prop} {k : Nat → Nat → Nat → Nat → Nat → Nat → Nat → Nat → Nat → Nat → Nat → Nat → Nat → Nat → Nat → Nat → Nat → Bool} {X_x1 X_f0_clock X_f0_groups X_f0_wrong : Nat} {x1 f0_op f0_clock f0_groups f0_wrong : Int32} (hk : ∀ ⦃A M F S N P C G W B6 B7 B8 B9 B10 B11 B12 B13 : Nat⦄ ⦃op pi cl gr wr : Int32⦄ ⦃c1 c2 c3 c4 c5 c6 c7 c8 c9 c10 c11 c12 c13 : Nat → Int32⦄, k A M F S N P C G W B6 B7 B8 B9 B10 B11 B12 B13 = true → ab_rg e A M F S N op c1 c2 c3 c4 c5 → ab_rv e P pi → ab_rv e C cl → ab_rv e G gr → ab_rv e W wr → ab_ra e 12 B6 c6 → ab_ra e 12 B7 c7 → ab_ra e 12 B8 c8 → ab_ra e 12 B9 c9 → ab_ra e 12 B10 c10 → ab_ra e 12 B11 c11 → ab_ra e 12 B12 c12 → ab_ra e 12 B13 c13 → post (op, pi, cl, gr, wr, c1, c2, c3, c4, c5, c6, c7, c8, c9, c10, c11, c12, c13)) (h_x1 : ab_rv e X_x1 x1) (h_f0_clock : ab_rv e X_f0_clock f0_clock) (h_f0_groups : ab_rv e X_f0_groups f0_groups) (h_f0_wrong : ab_rv e X_f0_wrong f0_wrong) : ∀ (n : Nat) ⦃X_x3 X_f0_piled X_a1 M_a1 F_a1 S_a1 N_a1 X_a6 X_a7 X_a8 X_a9 X_a10 X_a11 X_a12 X_a13 : Nat⦄ ⦃x3 f0_piled : Int32⦄ ⦃a1 a2 a3 a4 a5 a6 a7 a8 a9 a10 a11 a12 a13 : Nat → Int32⦄, bz_leave_34 k X_x1 X_f0_clock X_f0_groups X_f0_wrong n X_x3 X_f0_piled X_a1 M_a1 F_a1 S_a1 N_a1 X_a6 X_a7 X_a8 X_a9 X_a10 X_a11 X_a12 X_a13 = true → ab_rv e X_x3 x3 → ab_rv e X_f0_piled f0_piled → ab_rg e X_a1 M_a1 F_a1 S_a1 N_a1 f0_op a1 a2 a3 a4 a5 → ab_ra e 12 X_a6 a6 → ab_ra e 12 X_a7 a7 → ab_ra e 12 X_a8 a8 → ab_ra e 12 X_a9 a9 → ab_ra e 12 X_a10 a10 → ab_ra e 12 X_a11 a11 → ab_ra e 12 X_a12 a12 → ab_ra e 12 X_a13 a13 → wX_leave_34 post x1 f0_op f0_clock f0_groups f0_wrong n x3 f0_piled a1 a2 a3 a4 a5 a6 a7 a8 a9 a10 a11 a12 a13 := by
  intro n
  induction n with
  | zero =>
    intro X_x3 X_f0_piled X_a1 M_a1 F_a1 S_a1 N_a1 X_a6 X_a7 X_a8 X_a9 X_a10 X_a11 X_a12 X_a13 x3 f0_piled a1 a2 a3 a4 a5 a6 a7 a8 a9 a10 a11 a12 a13 hb h_x3 h_f0_piled g_a1 h_a6 h_a7 h_a8 h_a9 h_a10 h_a11 h_a12 h_a13
    exact absurd (show false = true from hb) (by decide)
  | succ n ih =>
    intro X_x3 X_f0_piled X_a1 M_a1 F_a1 S_a1 N_a1 X_a6 X_a7 X_a8 X_a9 X_a10 X_a11 X_a12 X_a13 x3 f0_piled a1 a2 a3 a4 a5 a6 a7 a8 a9 a10 a11 a12 a13 hb h_x3 h_f0_piled g_a1 h_a6 h_a7 h_a8 h_a9 h_a10 h_a11 h_a12 h_a13
    refine ab_eqS hb h_x3 ab_l0 (fun hb => ?_) (fun hb => ?_)
    · exact hk hb g_a1 h_f0_piled h_f0_clock h_f0_groups h_f0_wrong h_a6 h_a7 h_a8 h_a9 h_a10 h_a11 h_a12 h_a13
    · refine ab_letS hb (ab_subS h_f0_piled ab_l1) ?_
      intro X_f_18 f_18 hb h_f_18
      refine ab_vinS hb (by decide) h_f_18 (fun hb => ?_)
      refine ab_upS hb (by decide) h_a7 (ab_rdS (by decide) h_a13 h_f_18) ab_l1 ?_
      intro X_a7_21 a7_21 hb h_a7_21
      refine ab_vinS hb (by decide) h_f_18 (fun hb => ?_)
      refine ab_eqS hb (ab_rdS (by decide) h_a13 h_f_18) h_x1 (fun hb => ?_) (fun hb => ?_)
      · exact ih hb ab_l0 h_f_18 g_a1 h_a6 h_a7_21 h_a8 h_a9 h_a10 h_a11 h_a12 h_a13
      · exact ih hb ab_l1 h_f_18 g_a1 h_a6 h_a7_21 h_a8 h_a9 h_a10 h_a11 h_a12 h_a13
noncomputable def bz_leave (k : Nat → Nat → Nat → Nat → Nat → Nat → Nat → Nat → Nat → Nat → Nat → Nat → Nat → Nat → Nat → Nat → Nat → Bool) (X_a1 M_a1 F_a1 S_a1 N_a1 X_f0_piled X_f0_clock X_f0_groups X_f0_wrong X_a6 X_a7 X_a8 X_a9 X_a10 X_a11 X_a12 X_a13 X_p0 : Nat) : Bool :=
  (ab_vin 12 X_p0 (ab_str (ab_rd 12 X_a11 X_p0) (fun X_x2_2 => (ab_vin 12 X_p0 (ab_vin 12 X_p0 (ab_eq (ab_rd 12 X_a10 X_p0) (ab_rd 12 X_a9 X_p0) (ab_str (ab_add X_f0_groups 17) (fun X_f_16 => (bz_leave_34 k X_p0 X_f0_clock X_f_16 X_f0_wrong 200 17 X_f0_piled X_a1 M_a1 F_a1 S_a1 N_a1 X_a6 X_a7 X_a8 X_a9 X_a10 X_a11 X_a12 X_a13))) (ab_lt X_x2_2 16 (k X_a1 M_a1 F_a1 S_a1 N_a1 X_f0_piled X_f0_clock X_f0_groups X_f0_wrong X_a6 X_a7 X_a8 X_a9 X_a10 X_a11 X_a12 X_a13) (ab_vin 12 X_p0 (ab_vin 12 X_x2_2 (ab_le (ab_rd 12 X_a10 X_x2_2) (ab_rd 12 X_a10 X_p0) (ab_vin 12 X_x2_2 (ab_up 12 X_a10 X_x2_2 (ab_rd 12 X_a10 X_x2_2) (fun X_a10_12 => (k X_a1 M_a1 F_a1 S_a1 N_a1 X_f0_piled X_f0_clock X_f0_groups X_f0_wrong X_a6 X_a7 X_a8 X_a9 X_a10_12 X_a11 X_a12 X_a13)))) (ab_vin 12 X_p0 (ab_up 12 X_a10 X_x2_2 (ab_rd 12 X_a10 X_p0) (fun X_a10_15 => (k X_a1 M_a1 F_a1 S_a1 N_a1 X_f0_piled X_f0_clock X_f0_groups X_f0_wrong X_a6 X_a7 X_a8 X_a9 X_a10_15 X_a11 X_a12 X_a13))))))))))))))
theorem sz_leave {e : Nat → Int32} {post : St2 → Prop} {k : Nat → Nat → Nat → Nat → Nat → Nat → Nat → Nat → Nat → Nat → Nat → Nat → Nat → Nat → Nat → Nat → Nat → Bool} {X_a1 M_a1 F_a1 S_a1 N_a1 X_f0_piled X_f0_clock X_f0_groups X_f0_wrong X_a6 X_a7 X_a8 X_a9 X_a10 X_a11 X_a12 X_a13 X_p0 : Nat} {f0_op f0_piled f0_clock f0_groups f0_wrong p0 : Int32} {a1 a2 a3 a4 a5 a6 a7 a8 a9 a10 a11 a12 a13 : Nat → Int32} (hb : bz_leave k X_a1 M_a1 F_a1 S_a1 N_a1 X_f0_piled X_f0_clock X_f0_groups X_f0_wrong X_a6 X_a7 X_a8 X_a9 X_a10 X_a11 X_a12 X_a13 X_p0 = true) (hk : ∀ ⦃A M F S N P C G W B6 B7 B8 B9 B10 B11 B12 B13 : Nat⦄ ⦃op pi cl gr wr : Int32⦄ ⦃c1 c2 c3 c4 c5 c6 c7 c8 c9 c10 c11 c12 c13 : Nat → Int32⦄, k A M F S N P C G W B6 B7 B8 B9 B10 B11 B12 B13 = true → ab_rg e A M F S N op c1 c2 c3 c4 c5 → ab_rv e P pi → ab_rv e C cl → ab_rv e G gr → ab_rv e W wr → ab_ra e 12 B6 c6 → ab_ra e 12 B7 c7 → ab_ra e 12 B8 c8 → ab_ra e 12 B9 c9 → ab_ra e 12 B10 c10 → ab_ra e 12 B11 c11 → ab_ra e 12 B12 c12 → ab_ra e 12 B13 c13 → post (op, pi, cl, gr, wr, c1, c2, c3, c4, c5, c6, c7, c8, c9, c10, c11, c12, c13)) (g_a1 : ab_rg e X_a1 M_a1 F_a1 S_a1 N_a1 f0_op a1 a2 a3 a4 a5) (h_f0_piled : ab_rv e X_f0_piled f0_piled) (h_f0_clock : ab_rv e X_f0_clock f0_clock) (h_f0_groups : ab_rv e X_f0_groups f0_groups) (h_f0_wrong : ab_rv e X_f0_wrong f0_wrong) (h_a6 : ab_ra e 12 X_a6 a6) (h_a7 : ab_ra e 12 X_a7 a7) (h_a8 : ab_ra e 12 X_a8 a8) (h_a9 : ab_ra e 12 X_a9 a9) (h_a10 : ab_ra e 12 X_a10 a10) (h_a11 : ab_ra e 12 X_a11 a11) (h_a12 : ab_ra e 12 X_a12 a12) (h_a13 : ab_ra e 12 X_a13 a13) (h_p0 : ab_rv e X_p0 p0) : wpX_leave post (f0_op, f0_piled, f0_clock, f0_groups, f0_wrong, a1, a2, a3, a4, a5, a6, a7, a8, a9, a10, a11, a12, a13) p0 := by
  refine ab_vinS hb (by decide) h_p0 (fun hb => ?_)
  refine ab_letS hb (ab_rdS (by decide) h_a11 h_p0) ?_
  intro X_x2_2 x2_2 hb h_x2_2
  refine ab_vinS hb (by decide) h_p0 (fun hb => ?_)
  refine ab_vinS hb (by decide) h_p0 (fun hb => ?_)
  refine ab_eqS hb (ab_rdS (by decide) h_a10 h_p0) (ab_rdS (by decide) h_a9 h_p0) (fun hb => ?_) (fun hb => ?_)
  · refine ab_letS hb (ab_addS h_f0_groups ab_l1) ?_
    intro X_f_16 f_16 hb h_f_16
    exact ⟨200, sz_leave_34 hk h_p0 h_f0_clock h_f_16 h_f0_wrong 200 hb ab_l1 h_f0_piled g_a1 h_a6 h_a7 h_a8 h_a9 h_a10 h_a11 h_a12 h_a13⟩
  · refine ab_ltS hb h_x2_2 ab_l0 (fun hb => ?_) (fun hb => ?_)
    · exact hk hb g_a1 h_f0_piled h_f0_clock h_f0_groups h_f0_wrong h_a6 h_a7 h_a8 h_a9 h_a10 h_a11 h_a12 h_a13
    · refine ab_vinS hb (by decide) h_p0 (fun hb => ?_)
      refine ab_vinS hb (by decide) h_x2_2 (fun hb => ?_)
      refine ab_leS hb (ab_rdS (by decide) h_a10 h_x2_2) (ab_rdS (by decide) h_a10 h_p0) (fun hb => ?_) (fun hb => ?_)
      · refine ab_vinS hb (by decide) h_x2_2 (fun hb => ?_)
        refine ab_upS hb (by decide) h_a10 h_x2_2 (ab_rdS (by decide) h_a10 h_x2_2) ?_
        intro X_a10_12 a10_12 hb h_a10_12
        exact hk hb g_a1 h_f0_piled h_f0_clock h_f0_groups h_f0_wrong h_a6 h_a7 h_a8 h_a9 h_a10_12 h_a11 h_a12 h_a13
      · refine ab_vinS hb (by decide) h_p0 (fun hb => ?_)
        refine ab_upS hb (by decide) h_a10 h_x2_2 (ab_rdS (by decide) h_a10 h_p0) ?_
        intro X_a10_15 a10_15 hb h_a10_15
        exact hk hb g_a1 h_f0_piled h_f0_clock h_f0_groups h_f0_wrong h_a6 h_a7 h_a8 h_a9 h_a10_15 h_a11 h_a12 h_a13
noncomputable def bz_walk_117 (k : Nat → Nat → Nat → Nat → Nat → Nat → Nat → Nat → Nat → Nat → Nat → Nat → Nat → Nat → Nat → Nat → Nat → Bool) (J11 : Nat → Nat → Nat → Nat → Nat → Nat → Nat → Nat → Nat → Nat → Nat → Nat → Nat → Nat → Nat → Nat → Nat → Nat → Nat → Bool) (X_x2 X_x3 X_x4 X_x5 X_x6 X_f0_piled X_f0_clock X_f0_groups X_f0_wrong X_am31 M_am31 F_am31 S_am31 N_am31 X_am36 X_am37 X_am38 X_am39 X_am310 X_am311 X_am312 X_am313 : Nat) : Bool :=
  (bz_isOf (fun X_r_60 => (ab_eq X_r_60 16 (ab_str (ab_add X_x4 17) (fun X_x4_62 => (J11 X_x3 X_x4_62 X_f0_piled X_f0_clock X_f0_groups X_f0_wrong X_am31 M_am31 F_am31 S_am31 N_am31 X_am36 X_am37 X_am38 X_am39 X_am310 X_am311 X_am312 X_am313))) (ab_vin 12 X_x6 (ab_eq (ab_rd 12 X_am37 X_x6) 16 (ab_vin 12 X_x6 (ab_vin 12 X_x3 (ab_le (ab_rd 12 X_am310 X_x3) (ab_rd 12 X_am39 X_x6) (ab_vin 12 X_x3 (ab_up 12 X_am310 X_x3 (ab_rd 12 X_am310 X_x3) (fun X_am310_71 => (ab_str (ab_add X_x4 17) (fun X_x4_72 => (J11 X_x3 X_x4_72 X_f0_piled X_f0_clock X_f0_groups X_f0_wrong X_am31 M_am31 F_am31 S_am31 N_am31 X_am36 X_am37 X_am38 X_am39 X_am310_71 X_am311 X_am312 X_am313)))))) (ab_vin 12 X_x6 (ab_up 12 X_am310 X_x3 (ab_rd 12 X_am39 X_x6) (fun X_am310_75 => (ab_str (ab_add X_x4 17) (fun X_x4_76 => (J11 X_x3 X_x4_76 X_f0_piled X_f0_clock X_f0_groups X_f0_wrong X_am31 M_am31 F_am31 S_am31 N_am31 X_am36 X_am37 X_am38 X_am39 X_am310_75 X_am311 X_am312 X_am313))))))))) (ab_str (ab_add X_x4 17) (fun X_x4_65 => (J11 X_x3 X_x4_65 X_f0_piled X_f0_clock X_f0_groups X_f0_wrong X_am31 M_am31 F_am31 S_am31 N_am31 X_am36 X_am37 X_am38 X_am39 X_am310 X_am311 X_am312 X_am313))))))) X_am31 M_am31 F_am31 S_am31 N_am31 X_f0_piled X_f0_clock X_f0_groups X_f0_wrong X_am36 X_am37 X_am38 X_am39 X_am310 X_am311 X_am312 X_am313 X_x5 X_x2)
theorem sz_walk_117 {e : Nat → Int32} {post : St2 → Prop} {k : Nat → Nat → Nat → Nat → Nat → Nat → Nat → Nat → Nat → Nat → Nat → Nat → Nat → Nat → Nat → Nat → Nat → Bool} {J11 : Nat → Nat → Nat → Nat → Nat → Nat → Nat → Nat → Nat → Nat → Nat → Nat → Nat → Nat → Nat → Nat → Nat → Nat → Nat → Bool} {CJ11 : Int32 → Int32 → Int32 → Int32 → Int32 → Int32 → Int32 → (Nat → Int32) → (Nat → Int32) → (Nat → Int32) → (Nat → Int32) → (Nat → Int32) → (Nat → Int32) → (Nat → Int32) → (Nat → Int32) → (Nat → Int32) → (Nat → Int32) → (Nat → Int32) → (Nat → Int32) → (Nat → Int32) → Prop} {X_x2 X_x3 X_x4 X_x5 X_x6 X_f0_piled X_f0_clock X_f0_groups X_f0_wrong X_am31 M_am31 F_am31 S_am31 N_am31 X_am36 X_am37 X_am38 X_am39 X_am310 X_am311 X_am312 X_am313 : Nat} {x2 x3 x4 x5 x6 f0_op f0_piled f0_clock f0_groups f0_wrong : Int32} {am31 am32 am33 am34 am35 am36 am37 am38 am39 am310 am311 am312 am313 : Nat → Int32} (hb : bz_walk_117 k J11 X_x2 X_x3 X_x4 X_x5 X_x6 X_f0_piled X_f0_clock X_f0_groups X_f0_wrong X_am31 M_am31 F_am31 S_am31 N_am31 X_am36 X_am37 X_am38 X_am39 X_am310 X_am311 X_am312 X_am313 = true) (hk : ∀ ⦃A M F S N P C G W B6 B7 B8 B9 B10 B11 B12 B13 : Nat⦄ ⦃op pi cl gr wr : Int32⦄ ⦃c1 c2 c3 c4 c5 c6 c7 c8 c9 c10 c11 c12 c13 : Nat → Int32⦄, k A M F S N P C G W B6 B7 B8 B9 B10 B11 B12 B13 = true → ab_rg e A M F S N op c1 c2 c3 c4 c5 → ab_rv e P pi → ab_rv e C cl → ab_rv e G gr → ab_rv e W wr → ab_ra e 12 B6 c6 → ab_ra e 12 B7 c7 → ab_ra e 12 B8 c8 → ab_ra e 12 B9 c9 → ab_ra e 12 B10 c10 → ab_ra e 12 B11 c11 → ab_ra e 12 B12 c12 → ab_ra e 12 B13 c13 → post (op, pi, cl, gr, wr, c1, c2, c3, c4, c5, c6, c7, c8, c9, c10, c11, c12, c13)) (hJ11 : ∀ ⦃X_x3 X_x4 X_f0_piled X_f0_clock X_f0_groups X_f0_wrong X_am31 M_am31 F_am31 S_am31 N_am31 X_am36 X_am37 X_am38 X_am39 X_am310 X_am311 X_am312 X_am313 : Nat⦄ ⦃x3 x4 f0_op f0_piled f0_clock f0_groups f0_wrong : Int32⦄ ⦃am31 am32 am33 am34 am35 am36 am37 am38 am39 am310 am311 am312 am313 : Nat → Int32⦄, J11 X_x3 X_x4 X_f0_piled X_f0_clock X_f0_groups X_f0_wrong X_am31 M_am31 F_am31 S_am31 N_am31 X_am36 X_am37 X_am38 X_am39 X_am310 X_am311 X_am312 X_am313 = true → ab_rv e X_x3 x3 → ab_rv e X_x4 x4 → ab_rv e X_f0_piled f0_piled → ab_rv e X_f0_clock f0_clock → ab_rv e X_f0_groups f0_groups → ab_rv e X_f0_wrong f0_wrong → ab_rg e X_am31 M_am31 F_am31 S_am31 N_am31 f0_op am31 am32 am33 am34 am35 → ab_ra e 12 X_am36 am36 → ab_ra e 12 X_am37 am37 → ab_ra e 12 X_am38 am38 → ab_ra e 12 X_am39 am39 → ab_ra e 12 X_am310 am310 → ab_ra e 12 X_am311 am311 → ab_ra e 12 X_am312 am312 → ab_ra e 12 X_am313 am313 → CJ11 x3 x4 f0_op f0_piled f0_clock f0_groups f0_wrong am31 am32 am33 am34 am35 am36 am37 am38 am39 am310 am311 am312 am313) (h_x2 : ab_rv e X_x2 x2) (h_x3 : ab_rv e X_x3 x3) (h_x4 : ab_rv e X_x4 x4) (h_x5 : ab_rv e X_x5 x5) (h_x6 : ab_rv e X_x6 x6) (h_f0_piled : ab_rv e X_f0_piled f0_piled) (h_f0_clock : ab_rv e X_f0_clock f0_clock) (h_f0_groups : ab_rv e X_f0_groups f0_groups) (h_f0_wrong : ab_rv e X_f0_wrong f0_wrong) (g_am31 : ab_rg e X_am31 M_am31 F_am31 S_am31 N_am31 f0_op am31 am32 am33 am34 am35) (h_am36 : ab_ra e 12 X_am36 am36) (h_am37 : ab_ra e 12 X_am37 am37) (h_am38 : ab_ra e 12 X_am38 am38) (h_am39 : ab_ra e 12 X_am39 am39) (h_am310 : ab_ra e 12 X_am310 am310) (h_am311 : ab_ra e 12 X_am311 am311) (h_am312 : ab_ra e 12 X_am312 am312) (h_am313 : ab_ra e 12 X_am313 am313) : wX_walk_117 post CJ11 x2 x3 x4 x5 x6 f0_op f0_piled f0_clock f0_groups f0_wrong am31 am32 am33 am34 am35 am36 am37 am38 am39 am310 am311 am312 am313 := by
  unfold wX_walk_117
  refine sz_isOf hb ?_ g_am31 h_f0_piled h_f0_clock h_f0_groups h_f0_wrong h_am36 h_am37 h_am38 h_am39 h_am310 h_am311 h_am312 h_am313 h_x5 h_x2
  intro X_r_60 r_60 hb h_r_60
  refine ab_eqS hb h_r_60 ab_l0 (fun hb => ?_) (fun hb => ?_)
  · refine ab_letS hb (ab_addS h_x4 ab_l1) ?_
    intro X_x4_62 x4_62 hb h_x4_62
    exact hJ11 hb h_x3 h_x4_62 h_f0_piled h_f0_clock h_f0_groups h_f0_wrong g_am31 h_am36 h_am37 h_am38 h_am39 h_am310 h_am311 h_am312 h_am313
  · refine ab_vinS hb (by decide) h_x6 (fun hb => ?_)
    refine ab_eqS hb (ab_rdS (by decide) h_am37 h_x6) ab_l0 (fun hb => ?_) (fun hb => ?_)
    · refine ab_vinS hb (by decide) h_x6 (fun hb => ?_)
      refine ab_vinS hb (by decide) h_x3 (fun hb => ?_)
      refine ab_leS hb (ab_rdS (by decide) h_am310 h_x3) (ab_rdS (by decide) h_am39 h_x6) (fun hb => ?_) (fun hb => ?_)
      · refine ab_vinS hb (by decide) h_x3 (fun hb => ?_)
        refine ab_upS hb (by decide) h_am310 h_x3 (ab_rdS (by decide) h_am310 h_x3) ?_
        intro X_am310_71 am310_71 hb h_am310_71
        refine ab_letS hb (ab_addS h_x4 ab_l1) ?_
        intro X_x4_72 x4_72 hb h_x4_72
        exact hJ11 hb h_x3 h_x4_72 h_f0_piled h_f0_clock h_f0_groups h_f0_wrong g_am31 h_am36 h_am37 h_am38 h_am39 h_am310_71 h_am311 h_am312 h_am313
      · refine ab_vinS hb (by decide) h_x6 (fun hb => ?_)
        refine ab_upS hb (by decide) h_am310 h_x3 (ab_rdS (by decide) h_am39 h_x6) ?_
        intro X_am310_75 am310_75 hb h_am310_75
        refine ab_letS hb (ab_addS h_x4 ab_l1) ?_
        intro X_x4_76 x4_76 hb h_x4_76
        exact hJ11 hb h_x3 h_x4_76 h_f0_piled h_f0_clock h_f0_groups h_f0_wrong g_am31 h_am36 h_am37 h_am38 h_am39 h_am310_75 h_am311 h_am312 h_am313
    · refine ab_letS hb (ab_addS h_x4 ab_l1) ?_
      intro X_x4_65 x4_65 hb h_x4_65
      exact hJ11 hb h_x3 h_x4_65 h_f0_piled h_f0_clock h_f0_groups h_f0_wrong g_am31 h_am36 h_am37 h_am38 h_am39 h_am310 h_am311 h_am312 h_am313
noncomputable def bz_walk_11 (k : Nat → Nat → Nat → Nat → Nat → Nat → Nat → Nat → Nat → Nat → Nat → Nat → Nat → Nat → Nat → Nat → Nat → Bool) (X_x2 : Nat) (n : Nat) : Nat → Nat → Nat → Nat → Nat → Nat → Nat → Nat → Nat → Nat → Nat → Nat → Nat → Nat → Nat → Nat → Nat → Nat → Nat → Bool :=
  Nat.rec (motive := fun _ => Nat → Nat → Nat → Nat → Nat → Nat → Nat → Nat → Nat → Nat → Nat → Nat → Nat → Nat → Nat → Nat → Nat → Nat → Nat → Bool) (fun _ _ _ _ _ _ _ _ _ _ _ _ _ _ _ _ _ _ _ => false) (fun _ ih => fun X_x3 X_x4 X_f0_piled X_f0_clock X_f0_groups X_f0_wrong X_am31 M_am31 F_am31 S_am31 N_am31 X_am36 X_am37 X_am38 X_am39 X_am310 X_am311 X_am312 X_am313 => (ab_le 116 X_x4 (k X_am31 M_am31 F_am31 S_am31 N_am31 X_f0_piled X_f0_clock X_f0_groups X_f0_wrong X_am36 X_am37 X_am38 X_am39 X_am310 X_am311 X_am312 X_am313) (ab_lt X_x3 16 (k X_am31 M_am31 F_am31 S_am31 N_am31 X_f0_piled X_f0_clock X_f0_groups X_f0_wrong X_am36 X_am37 X_am38 X_am39 X_am310 X_am311 X_am312 X_am313) (ab_vin 12 X_x3 (ab_str (ab_rd 12 X_am312 X_x3) (fun X_x5_49 => (ab_le 16 X_x5_49 (bz_arrowCell (fun X_r_51 => (ab_vin 340 (ab_add X_r_51 21) (ab_up 12 X_am312 X_x3 (ab_rdc X_am31 (ab_add X_r_51 21)) (fun X_am312_54 => (bz_arrowCell (fun X_r_55 => (ab_vin 340 (ab_add (ab_add X_r_55 17) 17) (ab_str (ab_rdc X_am31 (ab_add (ab_add X_r_55 17) 17)) (fun X_x6_57 => (bz_isOf (fun X_r_58 => (ab_eq X_r_58 16 (bz_walk_117 k ih X_x2 X_x3 X_x4 X_x5_49 X_x6_57 X_f0_piled X_f0_clock X_f0_groups X_f0_wrong X_am31 M_am31 F_am31 S_am31 N_am31 X_am36 X_am37 X_am38 X_am39 X_am310 X_am311 X_am312_54 X_am313) (ab_vin 12 X_x6_57 (ab_le 16 (ab_rd 12 X_am39 X_x6_57) (bz_walk_117 k ih X_x2 X_x3 X_x4 X_x5_49 X_x6_57 X_f0_piled X_f0_clock X_f0_groups X_f0_wrong X_am31 M_am31 F_am31 S_am31 N_am31 X_am36 X_am37 X_am38 X_am39 X_am310 X_am311 X_am312_54 X_am313) (bz_enter (fun X_am1081_87 M_am1081_87 F_am1081_87 S_am1081_87 N_am1081_87 X_f0_piled_81 X_f0_clock_82 X_f0_groups_83 X_f0_wrong_84 X_am1086_102 X_am1087_105 X_am1088_108 X_am1089_111 X_am10810_114 X_am10811_117 X_am10812_120 X_am10813_123 => (ab_str (ab_add X_x4 17) (fun X_x4_124 => (ih X_x6_57 X_x4_124 X_f0_piled_81 X_f0_clock_82 X_f0_groups_83 X_f0_wrong_84 X_am1081_87 M_am1081_87 F_am1081_87 S_am1081_87 N_am1081_87 X_am1086_102 X_am1087_105 X_am1088_108 X_am1089_111 X_am10810_114 X_am10811_117 X_am10812_120 X_am10813_123)))) X_am31 M_am31 F_am31 S_am31 N_am31 X_f0_piled X_f0_clock X_f0_groups X_f0_wrong X_am36 X_am37 X_am38 X_am39 X_am310 X_am311 X_am312_54 X_am313 X_x6_57 X_x3))))) X_am31 M_am31 F_am31 S_am31 N_am31 X_f0_piled X_f0_clock X_f0_groups X_f0_wrong X_am36 X_am37 X_am38 X_am39 X_am310 X_am311 X_am312_54 X_am313 X_x5_49 X_x2))))) X_x5_49))))) X_x5_49) (bz_leave (fun X_am371_133 M_am371_133 F_am371_133 S_am371_133 N_am371_133 X_f0_piled_127 X_f0_clock_128 X_f0_groups_129 X_f0_wrong_130 X_am376_148 X_am377_151 X_am378_154 X_am379_157 X_am3710_160 X_am3711_163 X_am3712_166 X_am3713_169 => (ab_vin 12 X_x3 (ab_str (ab_rd 12 X_am3711_163 X_x3) (fun X_x3_171 => (ab_str (ab_add X_x4 17) (fun X_x4_172 => (ih X_x3_171 X_x4_172 X_f0_piled_127 X_f0_clock_128 X_f0_groups_129 X_f0_wrong_130 X_am371_133 M_am371_133 F_am371_133 S_am371_133 N_am371_133 X_am376_148 X_am377_151 X_am378_154 X_am379_157 X_am3710_160 X_am3711_163 X_am3712_166 X_am3713_169))))))) X_am31 M_am31 F_am31 S_am31 N_am31 X_f0_piled X_f0_clock X_f0_groups X_f0_wrong X_am36 X_am37 X_am38 X_am39 X_am310 X_am311 X_am312 X_am313 X_x3)))))))) n
theorem sz_walk_11 {e : Nat → Int32} {post : St2 → Prop} {k : Nat → Nat → Nat → Nat → Nat → Nat → Nat → Nat → Nat → Nat → Nat → Nat → Nat → Nat → Nat → Nat → Nat → Bool} {X_x2 : Nat} {x2 : Int32} (hk : ∀ ⦃A M F S N P C G W B6 B7 B8 B9 B10 B11 B12 B13 : Nat⦄ ⦃op pi cl gr wr : Int32⦄ ⦃c1 c2 c3 c4 c5 c6 c7 c8 c9 c10 c11 c12 c13 : Nat → Int32⦄, k A M F S N P C G W B6 B7 B8 B9 B10 B11 B12 B13 = true → ab_rg e A M F S N op c1 c2 c3 c4 c5 → ab_rv e P pi → ab_rv e C cl → ab_rv e G gr → ab_rv e W wr → ab_ra e 12 B6 c6 → ab_ra e 12 B7 c7 → ab_ra e 12 B8 c8 → ab_ra e 12 B9 c9 → ab_ra e 12 B10 c10 → ab_ra e 12 B11 c11 → ab_ra e 12 B12 c12 → ab_ra e 12 B13 c13 → post (op, pi, cl, gr, wr, c1, c2, c3, c4, c5, c6, c7, c8, c9, c10, c11, c12, c13)) (h_x2 : ab_rv e X_x2 x2) : ∀ (n : Nat) ⦃X_x3 X_x4 X_f0_piled X_f0_clock X_f0_groups X_f0_wrong X_am31 M_am31 F_am31 S_am31 N_am31 X_am36 X_am37 X_am38 X_am39 X_am310 X_am311 X_am312 X_am313 : Nat⦄ ⦃x3 x4 f0_op f0_piled f0_clock f0_groups f0_wrong : Int32⦄ ⦃am31 am32 am33 am34 am35 am36 am37 am38 am39 am310 am311 am312 am313 : Nat → Int32⦄, bz_walk_11 k X_x2 n X_x3 X_x4 X_f0_piled X_f0_clock X_f0_groups X_f0_wrong X_am31 M_am31 F_am31 S_am31 N_am31 X_am36 X_am37 X_am38 X_am39 X_am310 X_am311 X_am312 X_am313 = true → ab_rv e X_x3 x3 → ab_rv e X_x4 x4 → ab_rv e X_f0_piled f0_piled → ab_rv e X_f0_clock f0_clock → ab_rv e X_f0_groups f0_groups → ab_rv e X_f0_wrong f0_wrong → ab_rg e X_am31 M_am31 F_am31 S_am31 N_am31 f0_op am31 am32 am33 am34 am35 → ab_ra e 12 X_am36 am36 → ab_ra e 12 X_am37 am37 → ab_ra e 12 X_am38 am38 → ab_ra e 12 X_am39 am39 → ab_ra e 12 X_am310 am310 → ab_ra e 12 X_am311 am311 → ab_ra e 12 X_am312 am312 → ab_ra e 12 X_am313 am313 → wX_walk_11 post x2 n x3 x4 f0_op f0_piled f0_clock f0_groups f0_wrong am31 am32 am33 am34 am35 am36 am37 am38 am39 am310 am311 am312 am313 := by
  intro n
  induction n with
  | zero =>
    intro X_x3 X_x4 X_f0_piled X_f0_clock X_f0_groups X_f0_wrong X_am31 M_am31 F_am31 S_am31 N_am31 X_am36 X_am37 X_am38 X_am39 X_am310 X_am311 X_am312 X_am313 x3 x4 f0_op f0_piled f0_clock f0_groups f0_wrong am31 am32 am33 am34 am35 am36 am37 am38 am39 am310 am311 am312 am313 hb h_x3 h_x4 h_f0_piled h_f0_clock h_f0_groups h_f0_wrong g_am31 h_am36 h_am37 h_am38 h_am39 h_am310 h_am311 h_am312 h_am313
    exact absurd (show false = true from hb) (by decide)
  | succ n ih =>
    intro X_x3 X_x4 X_f0_piled X_f0_clock X_f0_groups X_f0_wrong X_am31 M_am31 F_am31 S_am31 N_am31 X_am36 X_am37 X_am38 X_am39 X_am310 X_am311 X_am312 X_am313 x3 x4 f0_op f0_piled f0_clock f0_groups f0_wrong am31 am32 am33 am34 am35 am36 am37 am38 am39 am310 am311 am312 am313 hb h_x3 h_x4 h_f0_piled h_f0_clock h_f0_groups h_f0_wrong g_am31 h_am36 h_am37 h_am38 h_am39 h_am310 h_am311 h_am312 h_am313
    refine ab_leS hb ab_l100 h_x4 (fun hb => ?_) (fun hb => ?_)
    · exact hk hb g_am31 h_f0_piled h_f0_clock h_f0_groups h_f0_wrong h_am36 h_am37 h_am38 h_am39 h_am310 h_am311 h_am312 h_am313
    · refine ab_ltS hb h_x3 ab_l0 (fun hb => ?_) (fun hb => ?_)
      · exact hk hb g_am31 h_f0_piled h_f0_clock h_f0_groups h_f0_wrong h_am36 h_am37 h_am38 h_am39 h_am310 h_am311 h_am312 h_am313
      · refine ab_vinS hb (by decide) h_x3 (fun hb => ?_)
        refine ab_letS hb (ab_rdS (by decide) h_am312 h_x3) ?_
        intro X_x5_49 x5_49 hb h_x5_49
        refine ab_leS hb ab_l0 h_x5_49 (fun hb => ?_) (fun hb => ?_)
        · refine sz_arrowCell hb ?_ h_x5_49
          intro X_r_51 r_51 hb h_r_51
          refine ab_vinS hb (by decide) (ab_addS h_r_51 ab_l5) (fun hb => ?_)
          refine ab_upS hb (by decide) h_am312 h_x3 (ab_rdcS g_am31.1 (ab_addS h_r_51 ab_l5)) ?_
          intro X_am312_54 am312_54 hb h_am312_54
          refine sz_arrowCell hb ?_ h_x5_49
          intro X_r_55 r_55 hb h_r_55
          refine ab_vinS hb (by decide) (ab_addS (ab_addS h_r_55 ab_l1) ab_l1) (fun hb => ?_)
          refine ab_letS hb (ab_rdcS g_am31.1 (ab_addS (ab_addS h_r_55 ab_l1) ab_l1)) ?_
          intro X_x6_57 x6_57 hb h_x6_57
          refine sz_isOf hb ?_ g_am31 h_f0_piled h_f0_clock h_f0_groups h_f0_wrong h_am36 h_am37 h_am38 h_am39 h_am310 h_am311 h_am312_54 h_am313 h_x5_49 h_x2
          intro X_r_58 r_58 hb h_r_58
          refine ab_eqS hb h_r_58 ab_l0 (fun hb => ?_) (fun hb => ?_)
          · exact sz_walk_117 hb hk ih h_x2 h_x3 h_x4 h_x5_49 h_x6_57 h_f0_piled h_f0_clock h_f0_groups h_f0_wrong g_am31 h_am36 h_am37 h_am38 h_am39 h_am310 h_am311 h_am312_54 h_am313
          · refine ab_vinS hb (by decide) h_x6_57 (fun hb => ?_)
            refine ab_leS hb ab_l0 (ab_rdS (by decide) h_am39 h_x6_57) (fun hb => ?_) (fun hb => ?_)
            · exact sz_walk_117 hb hk ih h_x2 h_x3 h_x4 h_x5_49 h_x6_57 h_f0_piled h_f0_clock h_f0_groups h_f0_wrong g_am31 h_am36 h_am37 h_am38 h_am39 h_am310 h_am311 h_am312_54 h_am313
            · refine sz_enter hb ?_ g_am31 h_f0_piled h_f0_clock h_f0_groups h_f0_wrong h_am36 h_am37 h_am38 h_am39 h_am310 h_am311 h_am312_54 h_am313 h_x6_57 h_x3
              intro X_am1081_87 M_am1081_87 F_am1081_87 S_am1081_87 N_am1081_87 X_f0_piled_81 X_f0_clock_82 X_f0_groups_83 X_f0_wrong_84 X_am1086_102 X_am1087_105 X_am1088_108 X_am1089_111 X_am10810_114 X_am10811_117 X_am10812_120 X_am10813_123 f0_op_80 f0_piled_81 f0_clock_82 f0_groups_83 f0_wrong_84 am1081_87 am1082_90 am1083_93 am1084_96 am1085_99 am1086_102 am1087_105 am1088_108 am1089_111 am10810_114 am10811_117 am10812_120 am10813_123 hb g_am1081_87 h_f0_piled_81 h_f0_clock_82 h_f0_groups_83 h_f0_wrong_84 h_am1086_102 h_am1087_105 h_am1088_108 h_am1089_111 h_am10810_114 h_am10811_117 h_am10812_120 h_am10813_123
              refine ab_letS hb (ab_addS h_x4 ab_l1) ?_
              intro X_x4_124 x4_124 hb h_x4_124
              exact ih hb h_x6_57 h_x4_124 h_f0_piled_81 h_f0_clock_82 h_f0_groups_83 h_f0_wrong_84 g_am1081_87 h_am1086_102 h_am1087_105 h_am1088_108 h_am1089_111 h_am10810_114 h_am10811_117 h_am10812_120 h_am10813_123
        · refine sz_leave hb ?_ g_am31 h_f0_piled h_f0_clock h_f0_groups h_f0_wrong h_am36 h_am37 h_am38 h_am39 h_am310 h_am311 h_am312 h_am313 h_x3
          intro X_am371_133 M_am371_133 F_am371_133 S_am371_133 N_am371_133 X_f0_piled_127 X_f0_clock_128 X_f0_groups_129 X_f0_wrong_130 X_am376_148 X_am377_151 X_am378_154 X_am379_157 X_am3710_160 X_am3711_163 X_am3712_166 X_am3713_169 f0_op_126 f0_piled_127 f0_clock_128 f0_groups_129 f0_wrong_130 am371_133 am372_136 am373_139 am374_142 am375_145 am376_148 am377_151 am378_154 am379_157 am3710_160 am3711_163 am3712_166 am3713_169 hb g_am371_133 h_f0_piled_127 h_f0_clock_128 h_f0_groups_129 h_f0_wrong_130 h_am376_148 h_am377_151 h_am378_154 h_am379_157 h_am3710_160 h_am3711_163 h_am3712_166 h_am3713_169
          refine ab_vinS hb (by decide) h_x3 (fun hb => ?_)
          refine ab_letS hb (ab_rdS (by decide) h_am3711_163 h_x3) ?_
          intro X_x3_171 x3_171 hb h_x3_171
          refine ab_letS hb (ab_addS h_x4 ab_l1) ?_
          intro X_x4_172 x4_172 hb h_x4_172
          exact ih hb h_x3_171 h_x4_172 h_f0_piled_127 h_f0_clock_128 h_f0_groups_129 h_f0_wrong_130 g_am371_133 h_am376_148 h_am377_151 h_am378_154 h_am379_157 h_am3710_160 h_am3711_163 h_am3712_166 h_am3713_169
noncomputable def bz_walk (k : Nat → Nat → Nat → Nat → Nat → Nat → Nat → Nat → Nat → Nat → Nat → Nat → Nat → Nat → Nat → Nat → Nat → Bool) (X_a1 M_a1 F_a1 S_a1 N_a1 X_f0_piled X_f0_clock X_f0_groups X_f0_wrong X_a6 X_a7 X_a8 X_a9 X_a10 X_a11 X_a12 X_a13 X_p0 X_p1 : Nat) : Bool :=
  (bz_enter (fun X_am31_9 M_am31_9 F_am31_9 S_am31_9 N_am31_9 X_f0_piled_3 X_f0_clock_4 X_f0_groups_5 X_f0_wrong_6 X_am36_24 X_am37_27 X_am38_30 X_am39_33 X_am310_36 X_am311_39 X_am312_42 X_am313_45 => (bz_walk_11 k X_p1 200 X_p0 16 X_f0_piled_3 X_f0_clock_4 X_f0_groups_5 X_f0_wrong_6 X_am31_9 M_am31_9 F_am31_9 S_am31_9 N_am31_9 X_am36_24 X_am37_27 X_am38_30 X_am39_33 X_am310_36 X_am311_39 X_am312_42 X_am313_45)) X_a1 M_a1 F_a1 S_a1 N_a1 X_f0_piled X_f0_clock X_f0_groups X_f0_wrong X_a6 X_a7 X_a8 X_a9 X_a10 X_a11 X_a12 X_a13 X_p0 15)
theorem sz_walk {e : Nat → Int32} {post : St2 → Prop} {k : Nat → Nat → Nat → Nat → Nat → Nat → Nat → Nat → Nat → Nat → Nat → Nat → Nat → Nat → Nat → Nat → Nat → Bool} {X_a1 M_a1 F_a1 S_a1 N_a1 X_f0_piled X_f0_clock X_f0_groups X_f0_wrong X_a6 X_a7 X_a8 X_a9 X_a10 X_a11 X_a12 X_a13 X_p0 X_p1 : Nat} {f0_op f0_piled f0_clock f0_groups f0_wrong p0 p1 : Int32} {a1 a2 a3 a4 a5 a6 a7 a8 a9 a10 a11 a12 a13 : Nat → Int32} (hb : bz_walk k X_a1 M_a1 F_a1 S_a1 N_a1 X_f0_piled X_f0_clock X_f0_groups X_f0_wrong X_a6 X_a7 X_a8 X_a9 X_a10 X_a11 X_a12 X_a13 X_p0 X_p1 = true) (hk : ∀ ⦃A M F S N P C G W B6 B7 B8 B9 B10 B11 B12 B13 : Nat⦄ ⦃op pi cl gr wr : Int32⦄ ⦃c1 c2 c3 c4 c5 c6 c7 c8 c9 c10 c11 c12 c13 : Nat → Int32⦄, k A M F S N P C G W B6 B7 B8 B9 B10 B11 B12 B13 = true → ab_rg e A M F S N op c1 c2 c3 c4 c5 → ab_rv e P pi → ab_rv e C cl → ab_rv e G gr → ab_rv e W wr → ab_ra e 12 B6 c6 → ab_ra e 12 B7 c7 → ab_ra e 12 B8 c8 → ab_ra e 12 B9 c9 → ab_ra e 12 B10 c10 → ab_ra e 12 B11 c11 → ab_ra e 12 B12 c12 → ab_ra e 12 B13 c13 → post (op, pi, cl, gr, wr, c1, c2, c3, c4, c5, c6, c7, c8, c9, c10, c11, c12, c13)) (g_a1 : ab_rg e X_a1 M_a1 F_a1 S_a1 N_a1 f0_op a1 a2 a3 a4 a5) (h_f0_piled : ab_rv e X_f0_piled f0_piled) (h_f0_clock : ab_rv e X_f0_clock f0_clock) (h_f0_groups : ab_rv e X_f0_groups f0_groups) (h_f0_wrong : ab_rv e X_f0_wrong f0_wrong) (h_a6 : ab_ra e 12 X_a6 a6) (h_a7 : ab_ra e 12 X_a7 a7) (h_a8 : ab_ra e 12 X_a8 a8) (h_a9 : ab_ra e 12 X_a9 a9) (h_a10 : ab_ra e 12 X_a10 a10) (h_a11 : ab_ra e 12 X_a11 a11) (h_a12 : ab_ra e 12 X_a12 a12) (h_a13 : ab_ra e 12 X_a13 a13) (h_p0 : ab_rv e X_p0 p0) (h_p1 : ab_rv e X_p1 p1) : wpX_walk post (f0_op, f0_piled, f0_clock, f0_groups, f0_wrong, a1, a2, a3, a4, a5, a6, a7, a8, a9, a10, a11, a12, a13) p0 p1 := by
  unfold wpX_walk
  refine sz_enter hb ?_ g_a1 h_f0_piled h_f0_clock h_f0_groups h_f0_wrong h_a6 h_a7 h_a8 h_a9 h_a10 h_a11 h_a12 h_a13 h_p0 ab_m1
  intro X_am31_9 M_am31_9 F_am31_9 S_am31_9 N_am31_9 X_f0_piled_3 X_f0_clock_4 X_f0_groups_5 X_f0_wrong_6 X_am36_24 X_am37_27 X_am38_30 X_am39_33 X_am310_36 X_am311_39 X_am312_42 X_am313_45 f0_op_2 f0_piled_3 f0_clock_4 f0_groups_5 f0_wrong_6 am31_9 am32_12 am33_15 am34_18 am35_21 am36_24 am37_27 am38_30 am39_33 am310_36 am311_39 am312_42 am313_45 hb g_am31_9 h_f0_piled_3 h_f0_clock_4 h_f0_groups_5 h_f0_wrong_6 h_am36_24 h_am37_27 h_am38_30 h_am39_33 h_am310_36 h_am311_39 h_am312_42 h_am313_45
  exact ⟨200, sz_walk_11 hk h_p1 200 hb h_p0 ab_l0 h_f0_piled_3 h_f0_clock_4 h_f0_groups_5 h_f0_wrong_6 g_am31_9 h_am36_24 h_am37_27 h_am38_30 h_am39_33 h_am310_36 h_am311_39 h_am312_42 h_am313_45⟩
noncomputable def bz_rounds_54 (k : Nat → Nat → Nat → Nat → Nat → Nat → Nat → Nat → Nat → Nat → Nat → Nat → Nat → Nat → Nat → Nat → Nat → Nat → Bool) (X_x1 : Nat) (n : Nat) : Nat → Nat → Nat → Nat → Nat → Nat → Nat → Nat → Nat → Nat → Nat → Nat → Nat → Nat → Nat → Nat → Nat → Nat → Bool :=
  Nat.rec (motive := fun _ => Nat → Nat → Nat → Nat → Nat → Nat → Nat → Nat → Nat → Nat → Nat → Nat → Nat → Nat → Nat → Nat → Nat → Nat → Bool) (fun _ _ _ _ _ _ _ _ _ _ _ _ _ _ _ _ _ _ => false) (fun _ ih => fun X_x2 X_f0_piled X_f0_clock X_f0_groups X_f0_wrong X_a1 M_a1 F_a1 S_a1 N_a1 X_a6 X_a7 X_a8 X_a9 X_a10 X_a11 X_a12 X_a13 => (ab_le 28 X_x2 (k X_f0_groups X_a1 M_a1 F_a1 S_a1 N_a1 X_f0_piled X_f0_clock X_f0_groups X_f0_wrong X_a6 X_a7 X_a8 X_a9 X_a10 X_a11 X_a12 X_a13) (bz_isNode (fun X_r_5 => (ab_eq X_r_5 16 (ab_str (ab_add X_x2 17) (fun X_x2_7 => (ih X_x2_7 X_f0_piled X_f0_clock X_f0_groups X_f0_wrong X_a1 M_a1 F_a1 S_a1 N_a1 X_a6 X_a7 X_a8 X_a9 X_a10 X_a11 X_a12 X_a13))) (ab_vin 12 X_x2 (ab_le 16 (ab_rd 12 X_a9 X_x2) (ab_str (ab_add X_x2 17) (fun X_x2_10 => (ih X_x2_10 X_f0_piled X_f0_clock X_f0_groups X_f0_wrong X_a1 M_a1 F_a1 S_a1 N_a1 X_a6 X_a7 X_a8 X_a9 X_a10 X_a11 X_a12 X_a13))) (bz_walk (fun X_am801_19 M_am801_19 F_am801_19 S_am801_19 N_am801_19 X_f0_piled_13 X_f0_clock_14 X_f0_groups_15 X_f0_wrong_16 X_am806_34 X_am807_37 X_am808_40 X_am809_43 X_am8010_46 X_am8011_49 X_am8012_52 X_am8013_55 => (ab_str (ab_add X_x2 17) (fun X_x2_56 => (ih X_x2_56 X_f0_piled_13 X_f0_clock_14 X_f0_groups_15 X_f0_wrong_16 X_am801_19 M_am801_19 F_am801_19 S_am801_19 N_am801_19 X_am806_34 X_am807_37 X_am808_40 X_am809_43 X_am8010_46 X_am8011_49 X_am8012_52 X_am8013_55)))) X_a1 M_a1 F_a1 S_a1 N_a1 X_f0_piled X_f0_clock X_f0_groups X_f0_wrong X_a6 X_a7 X_a8 X_a9 X_a10 X_a11 X_a12 X_a13 X_x2 X_x1))))) X_a1 M_a1 F_a1 S_a1 N_a1 X_f0_piled X_f0_clock X_f0_groups X_f0_wrong X_a6 X_a7 X_a8 X_a9 X_a10 X_a11 X_a12 X_a13 X_x2))) n
theorem sz_rounds_54 {e : Nat → Int32} {post : Int32 → St2 → Prop} {k : Nat → Nat → Nat → Nat → Nat → Nat → Nat → Nat → Nat → Nat → Nat → Nat → Nat → Nat → Nat → Nat → Nat → Nat → Bool} {X_x1 : Nat} {x1 : Int32} (hk : ∀ ⦃R A M F S N P C G W B6 B7 B8 B9 B10 B11 B12 B13 : Nat⦄ ⦃r op pi cl gr wr : Int32⦄ ⦃c1 c2 c3 c4 c5 c6 c7 c8 c9 c10 c11 c12 c13 : Nat → Int32⦄, k R A M F S N P C G W B6 B7 B8 B9 B10 B11 B12 B13 = true → ab_rv e R r → ab_rg e A M F S N op c1 c2 c3 c4 c5 → ab_rv e P pi → ab_rv e C cl → ab_rv e G gr → ab_rv e W wr → ab_ra e 12 B6 c6 → ab_ra e 12 B7 c7 → ab_ra e 12 B8 c8 → ab_ra e 12 B9 c9 → ab_ra e 12 B10 c10 → ab_ra e 12 B11 c11 → ab_ra e 12 B12 c12 → ab_ra e 12 B13 c13 → post r (op, pi, cl, gr, wr, c1, c2, c3, c4, c5, c6, c7, c8, c9, c10, c11, c12, c13)) (h_x1 : ab_rv e X_x1 x1) : ∀ (n : Nat) ⦃X_x2 X_f0_piled X_f0_clock X_f0_groups X_f0_wrong X_a1 M_a1 F_a1 S_a1 N_a1 X_a6 X_a7 X_a8 X_a9 X_a10 X_a11 X_a12 X_a13 : Nat⦄ ⦃x2 f0_op f0_piled f0_clock f0_groups f0_wrong : Int32⦄ ⦃a1 a2 a3 a4 a5 a6 a7 a8 a9 a10 a11 a12 a13 : Nat → Int32⦄, bz_rounds_54 k X_x1 n X_x2 X_f0_piled X_f0_clock X_f0_groups X_f0_wrong X_a1 M_a1 F_a1 S_a1 N_a1 X_a6 X_a7 X_a8 X_a9 X_a10 X_a11 X_a12 X_a13 = true → ab_rv e X_x2 x2 → ab_rv e X_f0_piled f0_piled → ab_rv e X_f0_clock f0_clock → ab_rv e X_f0_groups f0_groups → ab_rv e X_f0_wrong f0_wrong → ab_rg e X_a1 M_a1 F_a1 S_a1 N_a1 f0_op a1 a2 a3 a4 a5 → ab_ra e 12 X_a6 a6 → ab_ra e 12 X_a7 a7 → ab_ra e 12 X_a8 a8 → ab_ra e 12 X_a9 a9 → ab_ra e 12 X_a10 a10 → ab_ra e 12 X_a11 a11 → ab_ra e 12 X_a12 a12 → ab_ra e 12 X_a13 a13 → wX_rounds_54 post x1 n x2 f0_op f0_piled f0_clock f0_groups f0_wrong a1 a2 a3 a4 a5 a6 a7 a8 a9 a10 a11 a12 a13 := by
  intro n
  induction n with
  | zero =>
    intro X_x2 X_f0_piled X_f0_clock X_f0_groups X_f0_wrong X_a1 M_a1 F_a1 S_a1 N_a1 X_a6 X_a7 X_a8 X_a9 X_a10 X_a11 X_a12 X_a13 x2 f0_op f0_piled f0_clock f0_groups f0_wrong a1 a2 a3 a4 a5 a6 a7 a8 a9 a10 a11 a12 a13 hb h_x2 h_f0_piled h_f0_clock h_f0_groups h_f0_wrong g_a1 h_a6 h_a7 h_a8 h_a9 h_a10 h_a11 h_a12 h_a13
    exact absurd (show false = true from hb) (by decide)
  | succ n ih =>
    intro X_x2 X_f0_piled X_f0_clock X_f0_groups X_f0_wrong X_a1 M_a1 F_a1 S_a1 N_a1 X_a6 X_a7 X_a8 X_a9 X_a10 X_a11 X_a12 X_a13 x2 f0_op f0_piled f0_clock f0_groups f0_wrong a1 a2 a3 a4 a5 a6 a7 a8 a9 a10 a11 a12 a13 hb h_x2 h_f0_piled h_f0_clock h_f0_groups h_f0_wrong g_a1 h_a6 h_a7 h_a8 h_a9 h_a10 h_a11 h_a12 h_a13
    refine ab_leS hb ab_l12 h_x2 (fun hb => ?_) (fun hb => ?_)
    · exact hk hb h_f0_groups g_a1 h_f0_piled h_f0_clock h_f0_groups h_f0_wrong h_a6 h_a7 h_a8 h_a9 h_a10 h_a11 h_a12 h_a13
    · refine sz_isNode hb ?_ g_a1 h_f0_piled h_f0_clock h_f0_groups h_f0_wrong h_a6 h_a7 h_a8 h_a9 h_a10 h_a11 h_a12 h_a13 h_x2
      intro X_r_5 r_5 hb h_r_5
      refine ab_eqS hb h_r_5 ab_l0 (fun hb => ?_) (fun hb => ?_)
      · refine ab_letS hb (ab_addS h_x2 ab_l1) ?_
        intro X_x2_7 x2_7 hb h_x2_7
        exact ih hb h_x2_7 h_f0_piled h_f0_clock h_f0_groups h_f0_wrong g_a1 h_a6 h_a7 h_a8 h_a9 h_a10 h_a11 h_a12 h_a13
      · refine ab_vinS hb (by decide) h_x2 (fun hb => ?_)
        refine ab_leS hb ab_l0 (ab_rdS (by decide) h_a9 h_x2) (fun hb => ?_) (fun hb => ?_)
        · refine ab_letS hb (ab_addS h_x2 ab_l1) ?_
          intro X_x2_10 x2_10 hb h_x2_10
          exact ih hb h_x2_10 h_f0_piled h_f0_clock h_f0_groups h_f0_wrong g_a1 h_a6 h_a7 h_a8 h_a9 h_a10 h_a11 h_a12 h_a13
        · refine sz_walk hb ?_ g_a1 h_f0_piled h_f0_clock h_f0_groups h_f0_wrong h_a6 h_a7 h_a8 h_a9 h_a10 h_a11 h_a12 h_a13 h_x2 h_x1
          intro X_am801_19 M_am801_19 F_am801_19 S_am801_19 N_am801_19 X_f0_piled_13 X_f0_clock_14 X_f0_groups_15 X_f0_wrong_16 X_am806_34 X_am807_37 X_am808_40 X_am809_43 X_am8010_46 X_am8011_49 X_am8012_52 X_am8013_55 f0_op_12 f0_piled_13 f0_clock_14 f0_groups_15 f0_wrong_16 am801_19 am802_22 am803_25 am804_28 am805_31 am806_34 am807_37 am808_40 am809_43 am8010_46 am8011_49 am8012_52 am8013_55 hb g_am801_19 h_f0_piled_13 h_f0_clock_14 h_f0_groups_15 h_f0_wrong_16 h_am806_34 h_am807_37 h_am808_40 h_am809_43 h_am8010_46 h_am8011_49 h_am8012_52 h_am8013_55
          refine ab_letS hb (ab_addS h_x2 ab_l1) ?_
          intro X_x2_56 x2_56 hb h_x2_56
          exact ih hb h_x2_56 h_f0_piled_13 h_f0_clock_14 h_f0_groups_15 h_f0_wrong_16 g_am801_19 h_am806_34 h_am807_37 h_am808_40 h_am809_43 h_am8010_46 h_am8011_49 h_am8012_52 h_am8013_55
noncomputable def bz_rounds_26 (k : Nat → Nat → Nat → Nat → Nat → Nat → Nat → Nat → Nat → Nat → Nat → Nat → Nat → Nat → Nat → Nat → Nat → Nat → Bool) (X_x1 X_f0_piled X_f0_clock X_f0_groups X_f0_wrong : Nat) (n : Nat) : Nat → Nat → Nat → Nat → Nat → Nat → Nat → Nat → Nat → Nat → Nat → Nat → Nat → Nat → Bool :=
  Nat.rec (motive := fun _ => Nat → Nat → Nat → Nat → Nat → Nat → Nat → Nat → Nat → Nat → Nat → Nat → Nat → Nat → Bool) (fun _ _ _ _ _ _ _ _ _ _ _ _ _ _ => false) (fun _ ih => fun X_x2 X_a1 M_a1 F_a1 S_a1 N_a1 X_a6 X_a7 X_a8 X_a9 X_a10 X_a11 X_a12 X_a13 => (ab_le 28 X_x2 (bz_rounds_54 k X_x1 200 16 X_f0_piled X_f0_clock X_f0_groups X_f0_wrong X_a1 M_a1 F_a1 S_a1 N_a1 X_a6 X_a7 X_a8 X_a9 X_a10 X_a11 X_a12 X_a13) (ab_up 12 X_a9 X_x2 15 (fun X_a9_58 => (ab_up 12 X_a7 X_x2 16 (fun X_a7_60 => (ab_str (ab_add X_x2 17) (fun X_x2_61 => (ih X_x2_61 X_a1 M_a1 F_a1 S_a1 N_a1 X_a6 X_a7_60 X_a8 X_a9_58 X_a10 X_a11 X_a12 X_a13))))))))) n
theorem sz_rounds_26 {e : Nat → Int32} {post : Int32 → St2 → Prop} {k : Nat → Nat → Nat → Nat → Nat → Nat → Nat → Nat → Nat → Nat → Nat → Nat → Nat → Nat → Nat → Nat → Nat → Nat → Bool} {X_x1 X_f0_piled X_f0_clock X_f0_groups X_f0_wrong : Nat} {x1 f0_op f0_piled f0_clock f0_groups f0_wrong : Int32} (hk : ∀ ⦃R A M F S N P C G W B6 B7 B8 B9 B10 B11 B12 B13 : Nat⦄ ⦃r op pi cl gr wr : Int32⦄ ⦃c1 c2 c3 c4 c5 c6 c7 c8 c9 c10 c11 c12 c13 : Nat → Int32⦄, k R A M F S N P C G W B6 B7 B8 B9 B10 B11 B12 B13 = true → ab_rv e R r → ab_rg e A M F S N op c1 c2 c3 c4 c5 → ab_rv e P pi → ab_rv e C cl → ab_rv e G gr → ab_rv e W wr → ab_ra e 12 B6 c6 → ab_ra e 12 B7 c7 → ab_ra e 12 B8 c8 → ab_ra e 12 B9 c9 → ab_ra e 12 B10 c10 → ab_ra e 12 B11 c11 → ab_ra e 12 B12 c12 → ab_ra e 12 B13 c13 → post r (op, pi, cl, gr, wr, c1, c2, c3, c4, c5, c6, c7, c8, c9, c10, c11, c12, c13)) (h_x1 : ab_rv e X_x1 x1) (h_f0_piled : ab_rv e X_f0_piled f0_piled) (h_f0_clock : ab_rv e X_f0_clock f0_clock) (h_f0_groups : ab_rv e X_f0_groups f0_groups) (h_f0_wrong : ab_rv e X_f0_wrong f0_wrong) : ∀ (n : Nat) ⦃X_x2 X_a1 M_a1 F_a1 S_a1 N_a1 X_a6 X_a7 X_a8 X_a9 X_a10 X_a11 X_a12 X_a13 : Nat⦄ ⦃x2 : Int32⦄ ⦃a1 a2 a3 a4 a5 a6 a7 a8 a9 a10 a11 a12 a13 : Nat → Int32⦄, bz_rounds_26 k X_x1 X_f0_piled X_f0_clock X_f0_groups X_f0_wrong n X_x2 X_a1 M_a1 F_a1 S_a1 N_a1 X_a6 X_a7 X_a8 X_a9 X_a10 X_a11 X_a12 X_a13 = true → ab_rv e X_x2 x2 → ab_rg e X_a1 M_a1 F_a1 S_a1 N_a1 f0_op a1 a2 a3 a4 a5 → ab_ra e 12 X_a6 a6 → ab_ra e 12 X_a7 a7 → ab_ra e 12 X_a8 a8 → ab_ra e 12 X_a9 a9 → ab_ra e 12 X_a10 a10 → ab_ra e 12 X_a11 a11 → ab_ra e 12 X_a12 a12 → ab_ra e 12 X_a13 a13 → wX_rounds_26 post x1 f0_op f0_piled f0_clock f0_groups f0_wrong n x2 a1 a2 a3 a4 a5 a6 a7 a8 a9 a10 a11 a12 a13 := by
  intro n
  induction n with
  | zero =>
    intro X_x2 X_a1 M_a1 F_a1 S_a1 N_a1 X_a6 X_a7 X_a8 X_a9 X_a10 X_a11 X_a12 X_a13 x2 a1 a2 a3 a4 a5 a6 a7 a8 a9 a10 a11 a12 a13 hb h_x2 g_a1 h_a6 h_a7 h_a8 h_a9 h_a10 h_a11 h_a12 h_a13
    exact absurd (show false = true from hb) (by decide)
  | succ n ih =>
    intro X_x2 X_a1 M_a1 F_a1 S_a1 N_a1 X_a6 X_a7 X_a8 X_a9 X_a10 X_a11 X_a12 X_a13 x2 a1 a2 a3 a4 a5 a6 a7 a8 a9 a10 a11 a12 a13 hb h_x2 g_a1 h_a6 h_a7 h_a8 h_a9 h_a10 h_a11 h_a12 h_a13
    refine ab_leS hb ab_l12 h_x2 (fun hb => ?_) (fun hb => ?_)
    · exact ⟨200, sz_rounds_54 hk h_x1 200 hb ab_l0 h_f0_piled h_f0_clock h_f0_groups h_f0_wrong g_a1 h_a6 h_a7 h_a8 h_a9 h_a10 h_a11 h_a12 h_a13⟩
    · refine ab_upS hb (by decide) h_a9 h_x2 ab_m1 ?_
      intro X_a9_58 a9_58 hb h_a9_58
      refine ab_upS hb (by decide) h_a7 h_x2 ab_l0 ?_
      intro X_a7_60 a7_60 hb h_a7_60
      refine ab_letS hb (ab_addS h_x2 ab_l1) ?_
      intro X_x2_61 x2_61 hb h_x2_61
      exact ih hb h_x2_61 g_a1 h_a6 h_a7_60 h_a8 h_a9_58 h_a10 h_a11 h_a12 h_a13
noncomputable def bz_rounds (k : Nat → Nat → Nat → Nat → Nat → Nat → Nat → Nat → Nat → Nat → Nat → Nat → Nat → Nat → Nat → Nat → Nat → Nat → Bool) (X_a1 M_a1 F_a1 S_a1 N_a1 X_f0_piled X_f0_clock X_f0_groups X_f0_wrong X_a6 X_a7 X_a8 X_a9 X_a10 X_a11 X_a12 X_a13 X_p0 : Nat) : Bool :=
  (bz_isType (fun X_r_1 => (ab_eq X_r_1 16 (k 15 X_a1 M_a1 F_a1 S_a1 N_a1 X_f0_piled X_f0_clock X_f0_groups X_f0_wrong X_a6 X_a7 X_a8 X_a9 X_a10 X_a11 X_a12 X_a13) (bz_rounds_26 k X_p0 16 16 16 X_f0_wrong 200 16 X_a1 M_a1 F_a1 S_a1 N_a1 X_a6 X_a7 X_a8 X_a9 X_a10 X_a11 X_a12 X_a13))) X_p0)
theorem sz_rounds {e : Nat → Int32} {post : Int32 → St2 → Prop} {k : Nat → Nat → Nat → Nat → Nat → Nat → Nat → Nat → Nat → Nat → Nat → Nat → Nat → Nat → Nat → Nat → Nat → Nat → Bool} {X_a1 M_a1 F_a1 S_a1 N_a1 X_f0_piled X_f0_clock X_f0_groups X_f0_wrong X_a6 X_a7 X_a8 X_a9 X_a10 X_a11 X_a12 X_a13 X_p0 : Nat} {f0_op f0_piled f0_clock f0_groups f0_wrong p0 : Int32} {a1 a2 a3 a4 a5 a6 a7 a8 a9 a10 a11 a12 a13 : Nat → Int32} (hb : bz_rounds k X_a1 M_a1 F_a1 S_a1 N_a1 X_f0_piled X_f0_clock X_f0_groups X_f0_wrong X_a6 X_a7 X_a8 X_a9 X_a10 X_a11 X_a12 X_a13 X_p0 = true) (hk : ∀ ⦃R A M F S N P C G W B6 B7 B8 B9 B10 B11 B12 B13 : Nat⦄ ⦃r op pi cl gr wr : Int32⦄ ⦃c1 c2 c3 c4 c5 c6 c7 c8 c9 c10 c11 c12 c13 : Nat → Int32⦄, k R A M F S N P C G W B6 B7 B8 B9 B10 B11 B12 B13 = true → ab_rv e R r → ab_rg e A M F S N op c1 c2 c3 c4 c5 → ab_rv e P pi → ab_rv e C cl → ab_rv e G gr → ab_rv e W wr → ab_ra e 12 B6 c6 → ab_ra e 12 B7 c7 → ab_ra e 12 B8 c8 → ab_ra e 12 B9 c9 → ab_ra e 12 B10 c10 → ab_ra e 12 B11 c11 → ab_ra e 12 B12 c12 → ab_ra e 12 B13 c13 → post r (op, pi, cl, gr, wr, c1, c2, c3, c4, c5, c6, c7, c8, c9, c10, c11, c12, c13)) (g_a1 : ab_rg e X_a1 M_a1 F_a1 S_a1 N_a1 f0_op a1 a2 a3 a4 a5) (h_f0_piled : ab_rv e X_f0_piled f0_piled) (h_f0_clock : ab_rv e X_f0_clock f0_clock) (h_f0_groups : ab_rv e X_f0_groups f0_groups) (h_f0_wrong : ab_rv e X_f0_wrong f0_wrong) (h_a6 : ab_ra e 12 X_a6 a6) (h_a7 : ab_ra e 12 X_a7 a7) (h_a8 : ab_ra e 12 X_a8 a8) (h_a9 : ab_ra e 12 X_a9 a9) (h_a10 : ab_ra e 12 X_a10 a10) (h_a11 : ab_ra e 12 X_a11 a11) (h_a12 : ab_ra e 12 X_a12 a12) (h_a13 : ab_ra e 12 X_a13 a13) (h_p0 : ab_rv e X_p0 p0) : wpX_rounds post (f0_op, f0_piled, f0_clock, f0_groups, f0_wrong, a1, a2, a3, a4, a5, a6, a7, a8, a9, a10, a11, a12, a13) p0 := by
  unfold wpX_rounds
  refine sz_isType hb ?_ h_p0
  intro X_r_1 r_1 hb h_r_1
  refine ab_eqS hb h_r_1 ab_l0 (fun hb => ?_) (fun hb => ?_)
  · exact hk hb ab_m1 g_a1 h_f0_piled h_f0_clock h_f0_groups h_f0_wrong h_a6 h_a7 h_a8 h_a9 h_a10 h_a11 h_a12 h_a13
  · exact ⟨200, sz_rounds_26 hk h_p0 ab_l0 ab_l0 ab_l0 h_f0_wrong 200 hb ab_l0 g_a1 h_a6 h_a7 h_a8 h_a9 h_a10 h_a11 h_a12 h_a13⟩
noncomputable def bz_expect (k : Nat → Nat → Nat → Nat → Nat → Nat → Nat → Nat → Nat → Nat → Nat → Nat → Nat → Nat → Nat → Nat → Nat → Bool) (X_a1 M_a1 F_a1 S_a1 N_a1 X_f0_piled X_f0_clock X_f0_groups X_f0_wrong X_a6 X_a7 X_a8 X_a9 X_a10 X_a11 X_a12 X_a13 X_p0 : Nat) : Bool :=
  (ab_eq X_p0 16 (ab_str (ab_add X_f0_wrong 17) (fun X_f_2 => (k X_a1 M_a1 F_a1 S_a1 N_a1 X_f0_piled X_f0_clock X_f0_groups X_f_2 X_a6 X_a7 X_a8 X_a9 X_a10 X_a11 X_a12 X_a13))) (ab_str (ab_add X_f0_wrong 16) (fun X_f_3 => (k X_a1 M_a1 F_a1 S_a1 N_a1 X_f0_piled X_f0_clock X_f0_groups X_f_3 X_a6 X_a7 X_a8 X_a9 X_a10 X_a11 X_a12 X_a13))))
theorem sz_expect {e : Nat → Int32} {post : St2 → Prop} {k : Nat → Nat → Nat → Nat → Nat → Nat → Nat → Nat → Nat → Nat → Nat → Nat → Nat → Nat → Nat → Nat → Nat → Bool} {X_a1 M_a1 F_a1 S_a1 N_a1 X_f0_piled X_f0_clock X_f0_groups X_f0_wrong X_a6 X_a7 X_a8 X_a9 X_a10 X_a11 X_a12 X_a13 X_p0 : Nat} {f0_op f0_piled f0_clock f0_groups f0_wrong p0 : Int32} {a1 a2 a3 a4 a5 a6 a7 a8 a9 a10 a11 a12 a13 : Nat → Int32} (hb : bz_expect k X_a1 M_a1 F_a1 S_a1 N_a1 X_f0_piled X_f0_clock X_f0_groups X_f0_wrong X_a6 X_a7 X_a8 X_a9 X_a10 X_a11 X_a12 X_a13 X_p0 = true) (hk : ∀ ⦃A M F S N P C G W B6 B7 B8 B9 B10 B11 B12 B13 : Nat⦄ ⦃op pi cl gr wr : Int32⦄ ⦃c1 c2 c3 c4 c5 c6 c7 c8 c9 c10 c11 c12 c13 : Nat → Int32⦄, k A M F S N P C G W B6 B7 B8 B9 B10 B11 B12 B13 = true → ab_rg e A M F S N op c1 c2 c3 c4 c5 → ab_rv e P pi → ab_rv e C cl → ab_rv e G gr → ab_rv e W wr → ab_ra e 12 B6 c6 → ab_ra e 12 B7 c7 → ab_ra e 12 B8 c8 → ab_ra e 12 B9 c9 → ab_ra e 12 B10 c10 → ab_ra e 12 B11 c11 → ab_ra e 12 B12 c12 → ab_ra e 12 B13 c13 → post (op, pi, cl, gr, wr, c1, c2, c3, c4, c5, c6, c7, c8, c9, c10, c11, c12, c13)) (g_a1 : ab_rg e X_a1 M_a1 F_a1 S_a1 N_a1 f0_op a1 a2 a3 a4 a5) (h_f0_piled : ab_rv e X_f0_piled f0_piled) (h_f0_clock : ab_rv e X_f0_clock f0_clock) (h_f0_groups : ab_rv e X_f0_groups f0_groups) (h_f0_wrong : ab_rv e X_f0_wrong f0_wrong) (h_a6 : ab_ra e 12 X_a6 a6) (h_a7 : ab_ra e 12 X_a7 a7) (h_a8 : ab_ra e 12 X_a8 a8) (h_a9 : ab_ra e 12 X_a9 a9) (h_a10 : ab_ra e 12 X_a10 a10) (h_a11 : ab_ra e 12 X_a11 a11) (h_a12 : ab_ra e 12 X_a12 a12) (h_a13 : ab_ra e 12 X_a13 a13) (h_p0 : ab_rv e X_p0 p0) : wpX_expect post (f0_op, f0_piled, f0_clock, f0_groups, f0_wrong, a1, a2, a3, a4, a5, a6, a7, a8, a9, a10, a11, a12, a13) p0 := by
  refine ab_eqS hb h_p0 ab_l0 (fun hb => ?_) (fun hb => ?_)
  · refine ab_letS hb (ab_addS h_f0_wrong ab_l1) ?_
    intro X_f_2 f_2 hb h_f_2
    exact hk hb g_a1 h_f0_piled h_f0_clock h_f0_groups h_f_2 h_a6 h_a7 h_a8 h_a9 h_a10 h_a11 h_a12 h_a13
  · refine ab_letS hb (ab_addS h_f0_wrong ab_l0) ?_
    intro X_f_3 f_3 hb h_f_3
    exact hk hb g_a1 h_f0_piled h_f0_clock h_f0_groups h_f_3 h_a6 h_a7 h_a8 h_a9 h_a10 h_a11 h_a12 h_a13
noncomputable def bz_checkFree_53 (k : Nat → Nat → Nat → Nat → Nat → Nat → Nat → Nat → Nat → Nat → Nat → Nat → Nat → Nat → Nat → Nat → Nat → Nat → Bool) (J14 : Nat → Nat → Nat → Nat → Nat → Nat → Nat → Nat → Nat → Nat → Nat → Nat → Nat → Nat → Nat → Nat → Nat → Nat → Nat → Nat → Bool) (X_x2 X_x3 X_x4 X_x6 X_x7 X_z0 X_f0_piled X_f0_clock X_f0_groups X_f0_wrong X_a1 M_a1 F_a1 S_a1 N_a1 X_a6 X_a7 X_a8 X_a9 X_a10 X_a11 X_a12 X_a13 : Nat) : Bool :=
  (bz_expect (fun X_am531_14 M_am531_14 F_am531_14 S_am531_14 N_am531_14 X_f0_piled_8 X_f0_clock_9 X_f0_groups_10 X_f0_wrong_11 X_am536_29 X_am537_32 X_am538_35 X_am539_38 X_am5310_41 X_am5311_44 X_am5312_47 X_am5313_50 => (ab_vin 340 (ab_add (ab_add X_x2 (ab_mul X_x3 X_x7)) X_x4) (ab_str (ab_rdc X_am531_14 (ab_add (ab_add X_x2 (ab_mul X_x3 X_x7)) X_x4)) (fun X_x7_52 => (ab_str (ab_add X_x6 17) (fun X_x6_53 => (J14 X_x7 X_x6_53 X_x7_52 X_f0_piled_8 X_f0_clock_9 X_f0_groups_10 X_f0_wrong_11 X_am531_14 M_am531_14 F_am531_14 S_am531_14 N_am531_14 X_am536_29 X_am537_32 X_am538_35 X_am539_38 X_am5310_41 X_am5311_44 X_am5312_47 X_am5313_50))))))) X_a1 M_a1 F_a1 S_a1 N_a1 X_f0_piled X_f0_clock X_f0_groups X_f0_wrong X_a6 X_a7 X_a8 X_a9 X_a10 X_a11 X_a12 X_a13 X_z0)
theorem sz_checkFree_53 {e : Nat → Int32} {post : Int32 → St2 → Prop} {k : Nat → Nat → Nat → Nat → Nat → Nat → Nat → Nat → Nat → Nat → Nat → Nat → Nat → Nat → Nat → Nat → Nat → Nat → Bool} {J14 : Nat → Nat → Nat → Nat → Nat → Nat → Nat → Nat → Nat → Nat → Nat → Nat → Nat → Nat → Nat → Nat → Nat → Nat → Nat → Nat → Bool} {CJ14 : Int32 → Int32 → Int32 → Int32 → Int32 → Int32 → Int32 → Int32 → (Nat → Int32) → (Nat → Int32) → (Nat → Int32) → (Nat → Int32) → (Nat → Int32) → (Nat → Int32) → (Nat → Int32) → (Nat → Int32) → (Nat → Int32) → (Nat → Int32) → (Nat → Int32) → (Nat → Int32) → (Nat → Int32) → Prop} {X_x2 X_x3 X_x4 X_x6 X_x7 X_z0 X_f0_piled X_f0_clock X_f0_groups X_f0_wrong X_a1 M_a1 F_a1 S_a1 N_a1 X_a6 X_a7 X_a8 X_a9 X_a10 X_a11 X_a12 X_a13 : Nat} {x2 x3 x4 x6 x7 z0 f0_op f0_piled f0_clock f0_groups f0_wrong : Int32} {a1 a2 a3 a4 a5 a6 a7 a8 a9 a10 a11 a12 a13 : Nat → Int32} (hb : bz_checkFree_53 k J14 X_x2 X_x3 X_x4 X_x6 X_x7 X_z0 X_f0_piled X_f0_clock X_f0_groups X_f0_wrong X_a1 M_a1 F_a1 S_a1 N_a1 X_a6 X_a7 X_a8 X_a9 X_a10 X_a11 X_a12 X_a13 = true) (hk : ∀ ⦃R A M F S N P C G W B6 B7 B8 B9 B10 B11 B12 B13 : Nat⦄ ⦃r op pi cl gr wr : Int32⦄ ⦃c1 c2 c3 c4 c5 c6 c7 c8 c9 c10 c11 c12 c13 : Nat → Int32⦄, k R A M F S N P C G W B6 B7 B8 B9 B10 B11 B12 B13 = true → ab_rv e R r → ab_rg e A M F S N op c1 c2 c3 c4 c5 → ab_rv e P pi → ab_rv e C cl → ab_rv e G gr → ab_rv e W wr → ab_ra e 12 B6 c6 → ab_ra e 12 B7 c7 → ab_ra e 12 B8 c8 → ab_ra e 12 B9 c9 → ab_ra e 12 B10 c10 → ab_ra e 12 B11 c11 → ab_ra e 12 B12 c12 → ab_ra e 12 B13 c13 → post r (op, pi, cl, gr, wr, c1, c2, c3, c4, c5, c6, c7, c8, c9, c10, c11, c12, c13)) (hJ14 : ∀ ⦃X_x5 X_x6 X_x7 X_f0_piled X_f0_clock X_f0_groups X_f0_wrong X_a1 M_a1 F_a1 S_a1 N_a1 X_a6 X_a7 X_a8 X_a9 X_a10 X_a11 X_a12 X_a13 : Nat⦄ ⦃x5 x6 x7 f0_op f0_piled f0_clock f0_groups f0_wrong : Int32⦄ ⦃a1 a2 a3 a4 a5 a6 a7 a8 a9 a10 a11 a12 a13 : Nat → Int32⦄, J14 X_x5 X_x6 X_x7 X_f0_piled X_f0_clock X_f0_groups X_f0_wrong X_a1 M_a1 F_a1 S_a1 N_a1 X_a6 X_a7 X_a8 X_a9 X_a10 X_a11 X_a12 X_a13 = true → ab_rv e X_x5 x5 → ab_rv e X_x6 x6 → ab_rv e X_x7 x7 → ab_rv e X_f0_piled f0_piled → ab_rv e X_f0_clock f0_clock → ab_rv e X_f0_groups f0_groups → ab_rv e X_f0_wrong f0_wrong → ab_rg e X_a1 M_a1 F_a1 S_a1 N_a1 f0_op a1 a2 a3 a4 a5 → ab_ra e 12 X_a6 a6 → ab_ra e 12 X_a7 a7 → ab_ra e 12 X_a8 a8 → ab_ra e 12 X_a9 a9 → ab_ra e 12 X_a10 a10 → ab_ra e 12 X_a11 a11 → ab_ra e 12 X_a12 a12 → ab_ra e 12 X_a13 a13 → CJ14 x5 x6 x7 f0_op f0_piled f0_clock f0_groups f0_wrong a1 a2 a3 a4 a5 a6 a7 a8 a9 a10 a11 a12 a13) (h_x2 : ab_rv e X_x2 x2) (h_x3 : ab_rv e X_x3 x3) (h_x4 : ab_rv e X_x4 x4) (h_x6 : ab_rv e X_x6 x6) (h_x7 : ab_rv e X_x7 x7) (h_z0 : ab_rv e X_z0 z0) (h_f0_piled : ab_rv e X_f0_piled f0_piled) (h_f0_clock : ab_rv e X_f0_clock f0_clock) (h_f0_groups : ab_rv e X_f0_groups f0_groups) (h_f0_wrong : ab_rv e X_f0_wrong f0_wrong) (g_a1 : ab_rg e X_a1 M_a1 F_a1 S_a1 N_a1 f0_op a1 a2 a3 a4 a5) (h_a6 : ab_ra e 12 X_a6 a6) (h_a7 : ab_ra e 12 X_a7 a7) (h_a8 : ab_ra e 12 X_a8 a8) (h_a9 : ab_ra e 12 X_a9 a9) (h_a10 : ab_ra e 12 X_a10 a10) (h_a11 : ab_ra e 12 X_a11 a11) (h_a12 : ab_ra e 12 X_a12 a12) (h_a13 : ab_ra e 12 X_a13 a13) : wX_checkFree_53 post CJ14 x2 x3 x4 x6 x7 z0 f0_op f0_piled f0_clock f0_groups f0_wrong a1 a2 a3 a4 a5 a6 a7 a8 a9 a10 a11 a12 a13 := by
  unfold wX_checkFree_53
  refine sz_expect hb ?_ g_a1 h_f0_piled h_f0_clock h_f0_groups h_f0_wrong h_a6 h_a7 h_a8 h_a9 h_a10 h_a11 h_a12 h_a13 h_z0
  intro X_am531_14 M_am531_14 F_am531_14 S_am531_14 N_am531_14 X_f0_piled_8 X_f0_clock_9 X_f0_groups_10 X_f0_wrong_11 X_am536_29 X_am537_32 X_am538_35 X_am539_38 X_am5310_41 X_am5311_44 X_am5312_47 X_am5313_50 f0_op_7 f0_piled_8 f0_clock_9 f0_groups_10 f0_wrong_11 am531_14 am532_17 am533_20 am534_23 am535_26 am536_29 am537_32 am538_35 am539_38 am5310_41 am5311_44 am5312_47 am5313_50 hb g_am531_14 h_f0_piled_8 h_f0_clock_9 h_f0_groups_10 h_f0_wrong_11 h_am536_29 h_am537_32 h_am538_35 h_am539_38 h_am5310_41 h_am5311_44 h_am5312_47 h_am5313_50
  refine ab_vinS hb (by decide) (ab_addS (ab_addS h_x2 (ab_mulS h_x3 h_x7)) h_x4) (fun hb => ?_)
  refine ab_letS hb (ab_rdcS g_am531_14.1 (ab_addS (ab_addS h_x2 (ab_mulS h_x3 h_x7)) h_x4)) ?_
  intro X_x7_52 x7_52 hb h_x7_52
  refine ab_letS hb (ab_addS h_x6 ab_l1) ?_
  intro X_x6_53 x6_53 hb h_x6_53
  exact hJ14 hb h_x7 h_x6_53 h_x7_52 h_f0_piled_8 h_f0_clock_9 h_f0_groups_10 h_f0_wrong_11 g_am531_14 h_am536_29 h_am537_32 h_am538_35 h_am539_38 h_am5310_41 h_am5311_44 h_am5312_47 h_am5313_50
noncomputable def bz_checkFree_52 (k : Nat → Nat → Nat → Nat → Nat → Nat → Nat → Nat → Nat → Nat → Nat → Nat → Nat → Nat → Nat → Nat → Nat → Nat → Bool) (J14 : Nat → Nat → Nat → Nat → Nat → Nat → Nat → Nat → Nat → Nat → Nat → Nat → Nat → Nat → Nat → Nat → Nat → Nat → Nat → Nat → Bool) (X_x2 X_x3 X_x4 X_x6 X_x7 X_f0_piled X_f0_clock X_f0_groups X_f0_wrong X_a1 M_a1 F_a1 S_a1 N_a1 X_a6 X_a7 X_a8 X_a9 X_a10 X_a11 X_a12 X_a13 : Nat) : Bool :=
  (bz_checkFree_53 k J14 X_x2 X_x3 X_x4 X_x6 X_x7 16 X_f0_piled X_f0_clock X_f0_groups X_f0_wrong X_a1 M_a1 F_a1 S_a1 N_a1 X_a6 X_a7 X_a8 X_a9 X_a10 X_a11 X_a12 X_a13)
theorem sz_checkFree_52 {e : Nat → Int32} {post : Int32 → St2 → Prop} {k : Nat → Nat → Nat → Nat → Nat → Nat → Nat → Nat → Nat → Nat → Nat → Nat → Nat → Nat → Nat → Nat → Nat → Nat → Bool} {J14 : Nat → Nat → Nat → Nat → Nat → Nat → Nat → Nat → Nat → Nat → Nat → Nat → Nat → Nat → Nat → Nat → Nat → Nat → Nat → Nat → Bool} {CJ14 : Int32 → Int32 → Int32 → Int32 → Int32 → Int32 → Int32 → Int32 → (Nat → Int32) → (Nat → Int32) → (Nat → Int32) → (Nat → Int32) → (Nat → Int32) → (Nat → Int32) → (Nat → Int32) → (Nat → Int32) → (Nat → Int32) → (Nat → Int32) → (Nat → Int32) → (Nat → Int32) → (Nat → Int32) → Prop} {X_x2 X_x3 X_x4 X_x6 X_x7 X_f0_piled X_f0_clock X_f0_groups X_f0_wrong X_a1 M_a1 F_a1 S_a1 N_a1 X_a6 X_a7 X_a8 X_a9 X_a10 X_a11 X_a12 X_a13 : Nat} {x2 x3 x4 x6 x7 f0_op f0_piled f0_clock f0_groups f0_wrong : Int32} {a1 a2 a3 a4 a5 a6 a7 a8 a9 a10 a11 a12 a13 : Nat → Int32} (hb : bz_checkFree_52 k J14 X_x2 X_x3 X_x4 X_x6 X_x7 X_f0_piled X_f0_clock X_f0_groups X_f0_wrong X_a1 M_a1 F_a1 S_a1 N_a1 X_a6 X_a7 X_a8 X_a9 X_a10 X_a11 X_a12 X_a13 = true) (hk : ∀ ⦃R A M F S N P C G W B6 B7 B8 B9 B10 B11 B12 B13 : Nat⦄ ⦃r op pi cl gr wr : Int32⦄ ⦃c1 c2 c3 c4 c5 c6 c7 c8 c9 c10 c11 c12 c13 : Nat → Int32⦄, k R A M F S N P C G W B6 B7 B8 B9 B10 B11 B12 B13 = true → ab_rv e R r → ab_rg e A M F S N op c1 c2 c3 c4 c5 → ab_rv e P pi → ab_rv e C cl → ab_rv e G gr → ab_rv e W wr → ab_ra e 12 B6 c6 → ab_ra e 12 B7 c7 → ab_ra e 12 B8 c8 → ab_ra e 12 B9 c9 → ab_ra e 12 B10 c10 → ab_ra e 12 B11 c11 → ab_ra e 12 B12 c12 → ab_ra e 12 B13 c13 → post r (op, pi, cl, gr, wr, c1, c2, c3, c4, c5, c6, c7, c8, c9, c10, c11, c12, c13)) (hJ14 : ∀ ⦃X_x5 X_x6 X_x7 X_f0_piled X_f0_clock X_f0_groups X_f0_wrong X_a1 M_a1 F_a1 S_a1 N_a1 X_a6 X_a7 X_a8 X_a9 X_a10 X_a11 X_a12 X_a13 : Nat⦄ ⦃x5 x6 x7 f0_op f0_piled f0_clock f0_groups f0_wrong : Int32⦄ ⦃a1 a2 a3 a4 a5 a6 a7 a8 a9 a10 a11 a12 a13 : Nat → Int32⦄, J14 X_x5 X_x6 X_x7 X_f0_piled X_f0_clock X_f0_groups X_f0_wrong X_a1 M_a1 F_a1 S_a1 N_a1 X_a6 X_a7 X_a8 X_a9 X_a10 X_a11 X_a12 X_a13 = true → ab_rv e X_x5 x5 → ab_rv e X_x6 x6 → ab_rv e X_x7 x7 → ab_rv e X_f0_piled f0_piled → ab_rv e X_f0_clock f0_clock → ab_rv e X_f0_groups f0_groups → ab_rv e X_f0_wrong f0_wrong → ab_rg e X_a1 M_a1 F_a1 S_a1 N_a1 f0_op a1 a2 a3 a4 a5 → ab_ra e 12 X_a6 a6 → ab_ra e 12 X_a7 a7 → ab_ra e 12 X_a8 a8 → ab_ra e 12 X_a9 a9 → ab_ra e 12 X_a10 a10 → ab_ra e 12 X_a11 a11 → ab_ra e 12 X_a12 a12 → ab_ra e 12 X_a13 a13 → CJ14 x5 x6 x7 f0_op f0_piled f0_clock f0_groups f0_wrong a1 a2 a3 a4 a5 a6 a7 a8 a9 a10 a11 a12 a13) (h_x2 : ab_rv e X_x2 x2) (h_x3 : ab_rv e X_x3 x3) (h_x4 : ab_rv e X_x4 x4) (h_x6 : ab_rv e X_x6 x6) (h_x7 : ab_rv e X_x7 x7) (h_f0_piled : ab_rv e X_f0_piled f0_piled) (h_f0_clock : ab_rv e X_f0_clock f0_clock) (h_f0_groups : ab_rv e X_f0_groups f0_groups) (h_f0_wrong : ab_rv e X_f0_wrong f0_wrong) (g_a1 : ab_rg e X_a1 M_a1 F_a1 S_a1 N_a1 f0_op a1 a2 a3 a4 a5) (h_a6 : ab_ra e 12 X_a6 a6) (h_a7 : ab_ra e 12 X_a7 a7) (h_a8 : ab_ra e 12 X_a8 a8) (h_a9 : ab_ra e 12 X_a9 a9) (h_a10 : ab_ra e 12 X_a10 a10) (h_a11 : ab_ra e 12 X_a11 a11) (h_a12 : ab_ra e 12 X_a12 a12) (h_a13 : ab_ra e 12 X_a13 a13) : wX_checkFree_52 post CJ14 x2 x3 x4 x6 x7 f0_op f0_piled f0_clock f0_groups f0_wrong a1 a2 a3 a4 a5 a6 a7 a8 a9 a10 a11 a12 a13 := by
  exact sz_checkFree_53 hb hk hJ14 h_x2 h_x3 h_x4 h_x6 h_x7 ab_l0 h_f0_piled h_f0_clock h_f0_groups h_f0_wrong g_a1 h_a6 h_a7 h_a8 h_a9 h_a10 h_a11 h_a12 h_a13
noncomputable def bz_checkFree_14 (k : Nat → Nat → Nat → Nat → Nat → Nat → Nat → Nat → Nat → Nat → Nat → Nat → Nat → Nat → Nat → Nat → Nat → Nat → Bool) (X_x2 X_x3 X_x4 : Nat) (n : Nat) : Nat → Nat → Nat → Nat → Nat → Nat → Nat → Nat → Nat → Nat → Nat → Nat → Nat → Nat → Nat → Nat → Nat → Nat → Nat → Nat → Bool :=
  Nat.rec (motive := fun _ => Nat → Nat → Nat → Nat → Nat → Nat → Nat → Nat → Nat → Nat → Nat → Nat → Nat → Nat → Nat → Nat → Nat → Nat → Nat → Nat → Bool) (fun _ _ _ _ _ _ _ _ _ _ _ _ _ _ _ _ _ _ _ _ => false) (fun _ ih => fun X_x5 X_x6 X_x7 X_f0_piled X_f0_clock X_f0_groups X_f0_wrong X_a1 M_a1 F_a1 S_a1 N_a1 X_a6 X_a7 X_a8 X_a9 X_a10 X_a11 X_a12 X_a13 => (ab_lt X_x7 16 (k X_x6 X_a1 M_a1 F_a1 S_a1 N_a1 X_f0_piled X_f0_clock X_f0_groups X_f0_wrong X_a6 X_a7 X_a8 X_a9 X_a10 X_a11 X_a12 X_a13) (ab_lt 40 X_x6 (k X_x6 X_a1 M_a1 F_a1 S_a1 N_a1 X_f0_piled X_f0_clock X_f0_groups X_f0_wrong X_a6 X_a7 X_a8 X_a9 X_a10 X_a11 X_a12 X_a13) (ab_le X_x7 X_x5 (bz_checkFree_52 k ih X_x2 X_x3 X_x4 X_x6 X_x7 X_f0_piled X_f0_clock X_f0_groups X_f0_wrong X_a1 M_a1 F_a1 S_a1 N_a1 X_a6 X_a7 X_a8 X_a9 X_a10 X_a11 X_a12 X_a13) (ab_vin 340 (ab_add X_x2 (ab_mul X_x3 X_x7)) (ab_eq (ab_rdc X_a1 (ab_add X_x2 (ab_mul X_x3 X_x7))) 16 (bz_checkFree_53 k ih X_x2 X_x3 X_x4 X_x6 X_x7 17 X_f0_piled X_f0_clock X_f0_groups X_f0_wrong X_a1 M_a1 F_a1 S_a1 N_a1 X_a6 X_a7 X_a8 X_a9 X_a10 X_a11 X_a12 X_a13) (bz_checkFree_52 k ih X_x2 X_x3 X_x4 X_x6 X_x7 X_f0_piled X_f0_clock X_f0_groups X_f0_wrong X_a1 M_a1 F_a1 S_a1 N_a1 X_a6 X_a7 X_a8 X_a9 X_a10 X_a11 X_a12 X_a13))))))) n
theorem sz_checkFree_14 {e : Nat → Int32} {post : Int32 → St2 → Prop} {k : Nat → Nat → Nat → Nat → Nat → Nat → Nat → Nat → Nat → Nat → Nat → Nat → Nat → Nat → Nat → Nat → Nat → Nat → Bool} {X_x2 X_x3 X_x4 : Nat} {x2 x3 x4 : Int32} (hk : ∀ ⦃R A M F S N P C G W B6 B7 B8 B9 B10 B11 B12 B13 : Nat⦄ ⦃r op pi cl gr wr : Int32⦄ ⦃c1 c2 c3 c4 c5 c6 c7 c8 c9 c10 c11 c12 c13 : Nat → Int32⦄, k R A M F S N P C G W B6 B7 B8 B9 B10 B11 B12 B13 = true → ab_rv e R r → ab_rg e A M F S N op c1 c2 c3 c4 c5 → ab_rv e P pi → ab_rv e C cl → ab_rv e G gr → ab_rv e W wr → ab_ra e 12 B6 c6 → ab_ra e 12 B7 c7 → ab_ra e 12 B8 c8 → ab_ra e 12 B9 c9 → ab_ra e 12 B10 c10 → ab_ra e 12 B11 c11 → ab_ra e 12 B12 c12 → ab_ra e 12 B13 c13 → post r (op, pi, cl, gr, wr, c1, c2, c3, c4, c5, c6, c7, c8, c9, c10, c11, c12, c13)) (h_x2 : ab_rv e X_x2 x2) (h_x3 : ab_rv e X_x3 x3) (h_x4 : ab_rv e X_x4 x4) : ∀ (n : Nat) ⦃X_x5 X_x6 X_x7 X_f0_piled X_f0_clock X_f0_groups X_f0_wrong X_a1 M_a1 F_a1 S_a1 N_a1 X_a6 X_a7 X_a8 X_a9 X_a10 X_a11 X_a12 X_a13 : Nat⦄ ⦃x5 x6 x7 f0_op f0_piled f0_clock f0_groups f0_wrong : Int32⦄ ⦃a1 a2 a3 a4 a5 a6 a7 a8 a9 a10 a11 a12 a13 : Nat → Int32⦄, bz_checkFree_14 k X_x2 X_x3 X_x4 n X_x5 X_x6 X_x7 X_f0_piled X_f0_clock X_f0_groups X_f0_wrong X_a1 M_a1 F_a1 S_a1 N_a1 X_a6 X_a7 X_a8 X_a9 X_a10 X_a11 X_a12 X_a13 = true → ab_rv e X_x5 x5 → ab_rv e X_x6 x6 → ab_rv e X_x7 x7 → ab_rv e X_f0_piled f0_piled → ab_rv e X_f0_clock f0_clock → ab_rv e X_f0_groups f0_groups → ab_rv e X_f0_wrong f0_wrong → ab_rg e X_a1 M_a1 F_a1 S_a1 N_a1 f0_op a1 a2 a3 a4 a5 → ab_ra e 12 X_a6 a6 → ab_ra e 12 X_a7 a7 → ab_ra e 12 X_a8 a8 → ab_ra e 12 X_a9 a9 → ab_ra e 12 X_a10 a10 → ab_ra e 12 X_a11 a11 → ab_ra e 12 X_a12 a12 → ab_ra e 12 X_a13 a13 → wX_checkFree_14 post x2 x3 x4 n x5 x6 x7 f0_op f0_piled f0_clock f0_groups f0_wrong a1 a2 a3 a4 a5 a6 a7 a8 a9 a10 a11 a12 a13 := by
  intro n
  induction n with
  | zero =>
    intro X_x5 X_x6 X_x7 X_f0_piled X_f0_clock X_f0_groups X_f0_wrong X_a1 M_a1 F_a1 S_a1 N_a1 X_a6 X_a7 X_a8 X_a9 X_a10 X_a11 X_a12 X_a13 x5 x6 x7 f0_op f0_piled f0_clock f0_groups f0_wrong a1 a2 a3 a4 a5 a6 a7 a8 a9 a10 a11 a12 a13 hb h_x5 h_x6 h_x7 h_f0_piled h_f0_clock h_f0_groups h_f0_wrong g_a1 h_a6 h_a7 h_a8 h_a9 h_a10 h_a11 h_a12 h_a13
    exact absurd (show false = true from hb) (by decide)
  | succ n ih =>
    intro X_x5 X_x6 X_x7 X_f0_piled X_f0_clock X_f0_groups X_f0_wrong X_a1 M_a1 F_a1 S_a1 N_a1 X_a6 X_a7 X_a8 X_a9 X_a10 X_a11 X_a12 X_a13 x5 x6 x7 f0_op f0_piled f0_clock f0_groups f0_wrong a1 a2 a3 a4 a5 a6 a7 a8 a9 a10 a11 a12 a13 hb h_x5 h_x6 h_x7 h_f0_piled h_f0_clock h_f0_groups h_f0_wrong g_a1 h_a6 h_a7 h_a8 h_a9 h_a10 h_a11 h_a12 h_a13
    refine ab_ltS hb h_x7 ab_l0 (fun hb => ?_) (fun hb => ?_)
    · exact hk hb h_x6 g_a1 h_f0_piled h_f0_clock h_f0_groups h_f0_wrong h_a6 h_a7 h_a8 h_a9 h_a10 h_a11 h_a12 h_a13
    · refine ab_ltS hb ab_l24 h_x6 (fun hb => ?_) (fun hb => ?_)
      · exact hk hb h_x6 g_a1 h_f0_piled h_f0_clock h_f0_groups h_f0_wrong h_a6 h_a7 h_a8 h_a9 h_a10 h_a11 h_a12 h_a13
      · refine ab_leS hb h_x7 h_x5 (fun hb => ?_) (fun hb => ?_)
        · exact sz_checkFree_52 hb hk ih h_x2 h_x3 h_x4 h_x6 h_x7 h_f0_piled h_f0_clock h_f0_groups h_f0_wrong g_a1 h_a6 h_a7 h_a8 h_a9 h_a10 h_a11 h_a12 h_a13
        · refine ab_vinS hb (by decide) (ab_addS h_x2 (ab_mulS h_x3 h_x7)) (fun hb => ?_)
          refine ab_eqS hb (ab_rdcS g_a1.1 (ab_addS h_x2 (ab_mulS h_x3 h_x7))) ab_l0 (fun hb => ?_) (fun hb => ?_)
          · exact sz_checkFree_53 hb hk ih h_x2 h_x3 h_x4 h_x6 h_x7 ab_l1 h_f0_piled h_f0_clock h_f0_groups h_f0_wrong g_a1 h_a6 h_a7 h_a8 h_a9 h_a10 h_a11 h_a12 h_a13
          · exact sz_checkFree_52 hb hk ih h_x2 h_x3 h_x4 h_x6 h_x7 h_f0_piled h_f0_clock h_f0_groups h_f0_wrong g_a1 h_a6 h_a7 h_a8 h_a9 h_a10 h_a11 h_a12 h_a13
noncomputable def bz_checkFree (k : Nat → Nat → Nat → Nat → Nat → Nat → Nat → Nat → Nat → Nat → Nat → Nat → Nat → Nat → Nat → Nat → Nat → Nat → Bool) (X_a1 M_a1 F_a1 S_a1 N_a1 X_f0_piled X_f0_clock X_f0_groups X_f0_wrong X_a6 X_a7 X_a8 X_a9 X_a10 X_a11 X_a12 X_a13 X_p0 X_p1 X_p2 X_p3 : Nat) : Bool :=
  (ab_vin 340 X_p0 (ab_str (ab_rdc X_a1 X_p0) (fun X_x7_2 => (bz_checkFree_14 k X_p1 X_p2 X_p3 200 15 16 X_x7_2 X_f0_piled X_f0_clock X_f0_groups X_f0_wrong X_a1 M_a1 F_a1 S_a1 N_a1 X_a6 X_a7 X_a8 X_a9 X_a10 X_a11 X_a12 X_a13))))
theorem sz_checkFree {e : Nat → Int32} {post : Int32 → St2 → Prop} {k : Nat → Nat → Nat → Nat → Nat → Nat → Nat → Nat → Nat → Nat → Nat → Nat → Nat → Nat → Nat → Nat → Nat → Nat → Bool} {X_a1 M_a1 F_a1 S_a1 N_a1 X_f0_piled X_f0_clock X_f0_groups X_f0_wrong X_a6 X_a7 X_a8 X_a9 X_a10 X_a11 X_a12 X_a13 X_p0 X_p1 X_p2 X_p3 : Nat} {f0_op f0_piled f0_clock f0_groups f0_wrong p0 p1 p2 p3 : Int32} {a1 a2 a3 a4 a5 a6 a7 a8 a9 a10 a11 a12 a13 : Nat → Int32} (hb : bz_checkFree k X_a1 M_a1 F_a1 S_a1 N_a1 X_f0_piled X_f0_clock X_f0_groups X_f0_wrong X_a6 X_a7 X_a8 X_a9 X_a10 X_a11 X_a12 X_a13 X_p0 X_p1 X_p2 X_p3 = true) (hk : ∀ ⦃R A M F S N P C G W B6 B7 B8 B9 B10 B11 B12 B13 : Nat⦄ ⦃r op pi cl gr wr : Int32⦄ ⦃c1 c2 c3 c4 c5 c6 c7 c8 c9 c10 c11 c12 c13 : Nat → Int32⦄, k R A M F S N P C G W B6 B7 B8 B9 B10 B11 B12 B13 = true → ab_rv e R r → ab_rg e A M F S N op c1 c2 c3 c4 c5 → ab_rv e P pi → ab_rv e C cl → ab_rv e G gr → ab_rv e W wr → ab_ra e 12 B6 c6 → ab_ra e 12 B7 c7 → ab_ra e 12 B8 c8 → ab_ra e 12 B9 c9 → ab_ra e 12 B10 c10 → ab_ra e 12 B11 c11 → ab_ra e 12 B12 c12 → ab_ra e 12 B13 c13 → post r (op, pi, cl, gr, wr, c1, c2, c3, c4, c5, c6, c7, c8, c9, c10, c11, c12, c13)) (g_a1 : ab_rg e X_a1 M_a1 F_a1 S_a1 N_a1 f0_op a1 a2 a3 a4 a5) (h_f0_piled : ab_rv e X_f0_piled f0_piled) (h_f0_clock : ab_rv e X_f0_clock f0_clock) (h_f0_groups : ab_rv e X_f0_groups f0_groups) (h_f0_wrong : ab_rv e X_f0_wrong f0_wrong) (h_a6 : ab_ra e 12 X_a6 a6) (h_a7 : ab_ra e 12 X_a7 a7) (h_a8 : ab_ra e 12 X_a8 a8) (h_a9 : ab_ra e 12 X_a9 a9) (h_a10 : ab_ra e 12 X_a10 a10) (h_a11 : ab_ra e 12 X_a11 a11) (h_a12 : ab_ra e 12 X_a12 a12) (h_a13 : ab_ra e 12 X_a13 a13) (h_p0 : ab_rv e X_p0 p0) (h_p1 : ab_rv e X_p1 p1) (h_p2 : ab_rv e X_p2 p2) (h_p3 : ab_rv e X_p3 p3) : wpX_checkFree post (f0_op, f0_piled, f0_clock, f0_groups, f0_wrong, a1, a2, a3, a4, a5, a6, a7, a8, a9, a10, a11, a12, a13) p0 p1 p2 p3 := by
  refine ab_vinS hb (by decide) h_p0 (fun hb => ?_)
  refine ab_letS hb (ab_rdcS g_a1.1 h_p0) ?_
  intro X_x7_2 x7_2 hb h_x7_2
  exact ⟨200, sz_checkFree_14 hk h_p1 h_p2 h_p3 200 hb ab_m1 ab_l0 h_x7_2 h_f0_piled h_f0_clock h_f0_groups h_f0_wrong g_a1 h_a6 h_a7 h_a8 h_a9 h_a10 h_a11 h_a12 h_a13⟩
noncomputable def bz_checkChain_87 (k : Nat → Nat → Nat → Nat → Nat → Nat → Nat → Nat → Nat → Nat → Nat → Nat → Nat → Nat → Nat → Nat → Nat → Nat → Bool) (J20 : Nat → Nat → Nat → Nat → Nat → Nat → Nat → Nat → Nat → Nat → Nat → Nat → Nat → Nat → Nat → Nat → Nat → Nat → Nat → Nat → Bool) (X_x1 X_x2 X_x4 X_x5 X_x6 X_z0 X_f0_piled X_f0_clock X_f0_groups X_f0_wrong X_a1 M_a1 F_a1 S_a1 N_a1 X_a6 X_a7 X_a8 X_a9 X_a10 X_a11 X_a12 X_a13 : Nat) : Bool :=
  (bz_expect (fun X_am871_17 M_am871_17 F_am871_17 S_am871_17 N_am871_17 X_f0_piled_11 X_f0_clock_12 X_f0_groups_13 X_f0_wrong_14 X_am876_32 X_am877_35 X_am878_38 X_am879_41 X_am8710_44 X_am8711_47 X_am8712_50 X_am8713_53 => (ab_vin 340 (ab_add (ab_add X_x6 21) X_x2) (ab_str (ab_rdc X_am871_17 (ab_add (ab_add X_x6 21) X_x2)) (fun X_x5_55 => (ab_str (ab_add X_x4 17) (fun X_x4_56 => (J20 X_x5 X_x4_56 X_x5_55 X_f0_piled_11 X_f0_clock_12 X_f0_groups_13 X_f0_wrong_14 X_am871_17 M_am871_17 F_am871_17 S_am871_17 N_am871_17 X_am876_32 X_am877_35 X_am878_38 X_am879_41 X_am8710_44 X_am8711_47 X_am8712_50 X_am8713_53))))))) X_a1 M_a1 F_a1 S_a1 N_a1 X_f0_piled X_f0_clock X_f0_groups X_f0_wrong X_a6 X_a7 X_a8 X_a9 X_a10 X_a11 X_a12 X_a13 X_z0)
theorem sz_checkChain_87 {e : Nat → Int32} {post : Int32 → St2 → Prop} {k : Nat → Nat → Nat → Nat → Nat → Nat → Nat → Nat → Nat → Nat → Nat → Nat → Nat → Nat → Nat → Nat → Nat → Nat → Bool} {J20 : Nat → Nat → Nat → Nat → Nat → Nat → Nat → Nat → Nat → Nat → Nat → Nat → Nat → Nat → Nat → Nat → Nat → Nat → Nat → Nat → Bool} {CJ20 : Int32 → Int32 → Int32 → Int32 → Int32 → Int32 → Int32 → Int32 → (Nat → Int32) → (Nat → Int32) → (Nat → Int32) → (Nat → Int32) → (Nat → Int32) → (Nat → Int32) → (Nat → Int32) → (Nat → Int32) → (Nat → Int32) → (Nat → Int32) → (Nat → Int32) → (Nat → Int32) → (Nat → Int32) → Prop} {X_x1 X_x2 X_x4 X_x5 X_x6 X_z0 X_f0_piled X_f0_clock X_f0_groups X_f0_wrong X_a1 M_a1 F_a1 S_a1 N_a1 X_a6 X_a7 X_a8 X_a9 X_a10 X_a11 X_a12 X_a13 : Nat} {x1 x2 x4 x5 x6 z0 f0_op f0_piled f0_clock f0_groups f0_wrong : Int32} {a1 a2 a3 a4 a5 a6 a7 a8 a9 a10 a11 a12 a13 : Nat → Int32} (hb : bz_checkChain_87 k J20 X_x1 X_x2 X_x4 X_x5 X_x6 X_z0 X_f0_piled X_f0_clock X_f0_groups X_f0_wrong X_a1 M_a1 F_a1 S_a1 N_a1 X_a6 X_a7 X_a8 X_a9 X_a10 X_a11 X_a12 X_a13 = true) (hk : ∀ ⦃R A M F S N P C G W B6 B7 B8 B9 B10 B11 B12 B13 : Nat⦄ ⦃r op pi cl gr wr : Int32⦄ ⦃c1 c2 c3 c4 c5 c6 c7 c8 c9 c10 c11 c12 c13 : Nat → Int32⦄, k R A M F S N P C G W B6 B7 B8 B9 B10 B11 B12 B13 = true → ab_rv e R r → ab_rg e A M F S N op c1 c2 c3 c4 c5 → ab_rv e P pi → ab_rv e C cl → ab_rv e G gr → ab_rv e W wr → ab_ra e 12 B6 c6 → ab_ra e 12 B7 c7 → ab_ra e 12 B8 c8 → ab_ra e 12 B9 c9 → ab_ra e 12 B10 c10 → ab_ra e 12 B11 c11 → ab_ra e 12 B12 c12 → ab_ra e 12 B13 c13 → post r (op, pi, cl, gr, wr, c1, c2, c3, c4, c5, c6, c7, c8, c9, c10, c11, c12, c13)) (hJ20 : ∀ ⦃X_x3 X_x4 X_x5 X_f0_piled X_f0_clock X_f0_groups X_f0_wrong X_a1 M_a1 F_a1 S_a1 N_a1 X_a6 X_a7 X_a8 X_a9 X_a10 X_a11 X_a12 X_a13 : Nat⦄ ⦃x3 x4 x5 f0_op f0_piled f0_clock f0_groups f0_wrong : Int32⦄ ⦃a1 a2 a3 a4 a5 a6 a7 a8 a9 a10 a11 a12 a13 : Nat → Int32⦄, J20 X_x3 X_x4 X_x5 X_f0_piled X_f0_clock X_f0_groups X_f0_wrong X_a1 M_a1 F_a1 S_a1 N_a1 X_a6 X_a7 X_a8 X_a9 X_a10 X_a11 X_a12 X_a13 = true → ab_rv e X_x3 x3 → ab_rv e X_x4 x4 → ab_rv e X_x5 x5 → ab_rv e X_f0_piled f0_piled → ab_rv e X_f0_clock f0_clock → ab_rv e X_f0_groups f0_groups → ab_rv e X_f0_wrong f0_wrong → ab_rg e X_a1 M_a1 F_a1 S_a1 N_a1 f0_op a1 a2 a3 a4 a5 → ab_ra e 12 X_a6 a6 → ab_ra e 12 X_a7 a7 → ab_ra e 12 X_a8 a8 → ab_ra e 12 X_a9 a9 → ab_ra e 12 X_a10 a10 → ab_ra e 12 X_a11 a11 → ab_ra e 12 X_a12 a12 → ab_ra e 12 X_a13 a13 → CJ20 x3 x4 x5 f0_op f0_piled f0_clock f0_groups f0_wrong a1 a2 a3 a4 a5 a6 a7 a8 a9 a10 a11 a12 a13) (h_x1 : ab_rv e X_x1 x1) (h_x2 : ab_rv e X_x2 x2) (h_x4 : ab_rv e X_x4 x4) (h_x5 : ab_rv e X_x5 x5) (h_x6 : ab_rv e X_x6 x6) (h_z0 : ab_rv e X_z0 z0) (h_f0_piled : ab_rv e X_f0_piled f0_piled) (h_f0_clock : ab_rv e X_f0_clock f0_clock) (h_f0_groups : ab_rv e X_f0_groups f0_groups) (h_f0_wrong : ab_rv e X_f0_wrong f0_wrong) (g_a1 : ab_rg e X_a1 M_a1 F_a1 S_a1 N_a1 f0_op a1 a2 a3 a4 a5) (h_a6 : ab_ra e 12 X_a6 a6) (h_a7 : ab_ra e 12 X_a7 a7) (h_a8 : ab_ra e 12 X_a8 a8) (h_a9 : ab_ra e 12 X_a9 a9) (h_a10 : ab_ra e 12 X_a10 a10) (h_a11 : ab_ra e 12 X_a11 a11) (h_a12 : ab_ra e 12 X_a12 a12) (h_a13 : ab_ra e 12 X_a13 a13) : wX_checkChain_87 post CJ20 x1 x2 x4 x5 x6 z0 f0_op f0_piled f0_clock f0_groups f0_wrong a1 a2 a3 a4 a5 a6 a7 a8 a9 a10 a11 a12 a13 := by
  unfold wX_checkChain_87
  refine sz_expect hb ?_ g_a1 h_f0_piled h_f0_clock h_f0_groups h_f0_wrong h_a6 h_a7 h_a8 h_a9 h_a10 h_a11 h_a12 h_a13 h_z0
  intro X_am871_17 M_am871_17 F_am871_17 S_am871_17 N_am871_17 X_f0_piled_11 X_f0_clock_12 X_f0_groups_13 X_f0_wrong_14 X_am876_32 X_am877_35 X_am878_38 X_am879_41 X_am8710_44 X_am8711_47 X_am8712_50 X_am8713_53 f0_op_10 f0_piled_11 f0_clock_12 f0_groups_13 f0_wrong_14 am871_17 am872_20 am873_23 am874_26 am875_29 am876_32 am877_35 am878_38 am879_41 am8710_44 am8711_47 am8712_50 am8713_53 hb g_am871_17 h_f0_piled_11 h_f0_clock_12 h_f0_groups_13 h_f0_wrong_14 h_am876_32 h_am877_35 h_am878_38 h_am879_41 h_am8710_44 h_am8711_47 h_am8712_50 h_am8713_53
  refine ab_vinS hb (by decide) (ab_addS (ab_addS h_x6 ab_l5) h_x2) (fun hb => ?_)
  refine ab_letS hb (ab_rdcS g_am871_17.1 (ab_addS (ab_addS h_x6 ab_l5) h_x2)) ?_
  intro X_x5_55 x5_55 hb h_x5_55
  refine ab_letS hb (ab_addS h_x4 ab_l1) ?_
  intro X_x4_56 x4_56 hb h_x4_56
  exact hJ20 hb h_x5 h_x4_56 h_x5_55 h_f0_piled_11 h_f0_clock_12 h_f0_groups_13 h_f0_wrong_14 g_am871_17 h_am876_32 h_am877_35 h_am878_38 h_am879_41 h_am8710_44 h_am8711_47 h_am8712_50 h_am8713_53
noncomputable def bz_checkChain_86 (k : Nat → Nat → Nat → Nat → Nat → Nat → Nat → Nat → Nat → Nat → Nat → Nat → Nat → Nat → Nat → Nat → Nat → Nat → Bool) (J20 : Nat → Nat → Nat → Nat → Nat → Nat → Nat → Nat → Nat → Nat → Nat → Nat → Nat → Nat → Nat → Nat → Nat → Nat → Nat → Nat → Bool) (X_x1 X_x2 X_x4 X_x5 X_x6 X_f0_piled X_f0_clock X_f0_groups X_f0_wrong X_a1 M_a1 F_a1 S_a1 N_a1 X_a6 X_a7 X_a8 X_a9 X_a10 X_a11 X_a12 X_a13 : Nat) : Bool :=
  (bz_checkChain_87 k J20 X_x1 X_x2 X_x4 X_x5 X_x6 16 X_f0_piled X_f0_clock X_f0_groups X_f0_wrong X_a1 M_a1 F_a1 S_a1 N_a1 X_a6 X_a7 X_a8 X_a9 X_a10 X_a11 X_a12 X_a13)
theorem sz_checkChain_86 {e : Nat → Int32} {post : Int32 → St2 → Prop} {k : Nat → Nat → Nat → Nat → Nat → Nat → Nat → Nat → Nat → Nat → Nat → Nat → Nat → Nat → Nat → Nat → Nat → Nat → Bool} {J20 : Nat → Nat → Nat → Nat → Nat → Nat → Nat → Nat → Nat → Nat → Nat → Nat → Nat → Nat → Nat → Nat → Nat → Nat → Nat → Nat → Bool} {CJ20 : Int32 → Int32 → Int32 → Int32 → Int32 → Int32 → Int32 → Int32 → (Nat → Int32) → (Nat → Int32) → (Nat → Int32) → (Nat → Int32) → (Nat → Int32) → (Nat → Int32) → (Nat → Int32) → (Nat → Int32) → (Nat → Int32) → (Nat → Int32) → (Nat → Int32) → (Nat → Int32) → (Nat → Int32) → Prop} {X_x1 X_x2 X_x4 X_x5 X_x6 X_f0_piled X_f0_clock X_f0_groups X_f0_wrong X_a1 M_a1 F_a1 S_a1 N_a1 X_a6 X_a7 X_a8 X_a9 X_a10 X_a11 X_a12 X_a13 : Nat} {x1 x2 x4 x5 x6 f0_op f0_piled f0_clock f0_groups f0_wrong : Int32} {a1 a2 a3 a4 a5 a6 a7 a8 a9 a10 a11 a12 a13 : Nat → Int32} (hb : bz_checkChain_86 k J20 X_x1 X_x2 X_x4 X_x5 X_x6 X_f0_piled X_f0_clock X_f0_groups X_f0_wrong X_a1 M_a1 F_a1 S_a1 N_a1 X_a6 X_a7 X_a8 X_a9 X_a10 X_a11 X_a12 X_a13 = true) (hk : ∀ ⦃R A M F S N P C G W B6 B7 B8 B9 B10 B11 B12 B13 : Nat⦄ ⦃r op pi cl gr wr : Int32⦄ ⦃c1 c2 c3 c4 c5 c6 c7 c8 c9 c10 c11 c12 c13 : Nat → Int32⦄, k R A M F S N P C G W B6 B7 B8 B9 B10 B11 B12 B13 = true → ab_rv e R r → ab_rg e A M F S N op c1 c2 c3 c4 c5 → ab_rv e P pi → ab_rv e C cl → ab_rv e G gr → ab_rv e W wr → ab_ra e 12 B6 c6 → ab_ra e 12 B7 c7 → ab_ra e 12 B8 c8 → ab_ra e 12 B9 c9 → ab_ra e 12 B10 c10 → ab_ra e 12 B11 c11 → ab_ra e 12 B12 c12 → ab_ra e 12 B13 c13 → post r (op, pi, cl, gr, wr, c1, c2, c3, c4, c5, c6, c7, c8, c9, c10, c11, c12, c13)) (hJ20 : ∀ ⦃X_x3 X_x4 X_x5 X_f0_piled X_f0_clock X_f0_groups X_f0_wrong X_a1 M_a1 F_a1 S_a1 N_a1 X_a6 X_a7 X_a8 X_a9 X_a10 X_a11 X_a12 X_a13 : Nat⦄ ⦃x3 x4 x5 f0_op f0_piled f0_clock f0_groups f0_wrong : Int32⦄ ⦃a1 a2 a3 a4 a5 a6 a7 a8 a9 a10 a11 a12 a13 : Nat → Int32⦄, J20 X_x3 X_x4 X_x5 X_f0_piled X_f0_clock X_f0_groups X_f0_wrong X_a1 M_a1 F_a1 S_a1 N_a1 X_a6 X_a7 X_a8 X_a9 X_a10 X_a11 X_a12 X_a13 = true → ab_rv e X_x3 x3 → ab_rv e X_x4 x4 → ab_rv e X_x5 x5 → ab_rv e X_f0_piled f0_piled → ab_rv e X_f0_clock f0_clock → ab_rv e X_f0_groups f0_groups → ab_rv e X_f0_wrong f0_wrong → ab_rg e X_a1 M_a1 F_a1 S_a1 N_a1 f0_op a1 a2 a3 a4 a5 → ab_ra e 12 X_a6 a6 → ab_ra e 12 X_a7 a7 → ab_ra e 12 X_a8 a8 → ab_ra e 12 X_a9 a9 → ab_ra e 12 X_a10 a10 → ab_ra e 12 X_a11 a11 → ab_ra e 12 X_a12 a12 → ab_ra e 12 X_a13 a13 → CJ20 x3 x4 x5 f0_op f0_piled f0_clock f0_groups f0_wrong a1 a2 a3 a4 a5 a6 a7 a8 a9 a10 a11 a12 a13) (h_x1 : ab_rv e X_x1 x1) (h_x2 : ab_rv e X_x2 x2) (h_x4 : ab_rv e X_x4 x4) (h_x5 : ab_rv e X_x5 x5) (h_x6 : ab_rv e X_x6 x6) (h_f0_piled : ab_rv e X_f0_piled f0_piled) (h_f0_clock : ab_rv e X_f0_clock f0_clock) (h_f0_groups : ab_rv e X_f0_groups f0_groups) (h_f0_wrong : ab_rv e X_f0_wrong f0_wrong) (g_a1 : ab_rg e X_a1 M_a1 F_a1 S_a1 N_a1 f0_op a1 a2 a3 a4 a5) (h_a6 : ab_ra e 12 X_a6 a6) (h_a7 : ab_ra e 12 X_a7 a7) (h_a8 : ab_ra e 12 X_a8 a8) (h_a9 : ab_ra e 12 X_a9 a9) (h_a10 : ab_ra e 12 X_a10 a10) (h_a11 : ab_ra e 12 X_a11 a11) (h_a12 : ab_ra e 12 X_a12 a12) (h_a13 : ab_ra e 12 X_a13 a13) : wX_checkChain_86 post CJ20 x1 x2 x4 x5 x6 f0_op f0_piled f0_clock f0_groups f0_wrong a1 a2 a3 a4 a5 a6 a7 a8 a9 a10 a11 a12 a13 := by
  exact sz_checkChain_87 hb hk hJ20 h_x1 h_x2 h_x4 h_x5 h_x6 ab_l0 h_f0_piled h_f0_clock h_f0_groups h_f0_wrong g_a1 h_a6 h_a7 h_a8 h_a9 h_a10 h_a11 h_a12 h_a13
noncomputable def bz_checkChain_20 (k : Nat → Nat → Nat → Nat → Nat → Nat → Nat → Nat → Nat → Nat → Nat → Nat → Nat → Nat → Nat → Nat → Nat → Nat → Bool) (X_x1 X_x2 : Nat) (n : Nat) : Nat → Nat → Nat → Nat → Nat → Nat → Nat → Nat → Nat → Nat → Nat → Nat → Nat → Nat → Nat → Nat → Nat → Nat → Nat → Nat → Bool :=
  Nat.rec (motive := fun _ => Nat → Nat → Nat → Nat → Nat → Nat → Nat → Nat → Nat → Nat → Nat → Nat → Nat → Nat → Nat → Nat → Nat → Nat → Nat → Nat → Bool) (fun _ _ _ _ _ _ _ _ _ _ _ _ _ _ _ _ _ _ _ _ => false) (fun _ ih => fun X_x3 X_x4 X_x5 X_f0_piled X_f0_clock X_f0_groups X_f0_wrong X_a1 M_a1 F_a1 S_a1 N_a1 X_a6 X_a7 X_a8 X_a9 X_a10 X_a11 X_a12 X_a13 => (ab_lt X_x5 16 (k X_x4 X_a1 M_a1 F_a1 S_a1 N_a1 X_f0_piled X_f0_clock X_f0_groups X_f0_wrong X_a6 X_a7 X_a8 X_a9 X_a10 X_a11 X_a12 X_a13) (ab_lt 40 X_x4 (k X_x4 X_a1 M_a1 F_a1 S_a1 N_a1 X_f0_piled X_f0_clock X_f0_groups X_f0_wrong X_a6 X_a7 X_a8 X_a9 X_a10 X_a11 X_a12 X_a13) (bz_arrowCell (fun X_r_6 => (ab_vin 340 X_r_6 (ab_eq (ab_rdc X_a1 X_r_6) 17 (ab_vin 340 (ab_add (ab_add X_r_6 17) X_x2) (ab_eq (ab_rdc X_a1 (ab_add (ab_add X_r_6 17) X_x2)) X_x1 (ab_vin 340 (ab_add (ab_add X_r_6 23) X_x2) (ab_eq (ab_rdc X_a1 (ab_add (ab_add X_r_6 23) X_x2)) X_x3 (bz_checkChain_87 k ih X_x1 X_x2 X_x4 X_x5 X_r_6 17 X_f0_piled X_f0_clock X_f0_groups X_f0_wrong X_a1 M_a1 F_a1 S_a1 N_a1 X_a6 X_a7 X_a8 X_a9 X_a10 X_a11 X_a12 X_a13) (bz_checkChain_86 k ih X_x1 X_x2 X_x4 X_x5 X_r_6 X_f0_piled X_f0_clock X_f0_groups X_f0_wrong X_a1 M_a1 F_a1 S_a1 N_a1 X_a6 X_a7 X_a8 X_a9 X_a10 X_a11 X_a12 X_a13))) (bz_checkChain_86 k ih X_x1 X_x2 X_x4 X_x5 X_r_6 X_f0_piled X_f0_clock X_f0_groups X_f0_wrong X_a1 M_a1 F_a1 S_a1 N_a1 X_a6 X_a7 X_a8 X_a9 X_a10 X_a11 X_a12 X_a13))) (bz_checkChain_86 k ih X_x1 X_x2 X_x4 X_x5 X_r_6 X_f0_piled X_f0_clock X_f0_groups X_f0_wrong X_a1 M_a1 F_a1 S_a1 N_a1 X_a6 X_a7 X_a8 X_a9 X_a10 X_a11 X_a12 X_a13)))) X_x5)))) n
theorem sz_checkChain_20 {e : Nat → Int32} {post : Int32 → St2 → Prop} {k : Nat → Nat → Nat → Nat → Nat → Nat → Nat → Nat → Nat → Nat → Nat → Nat → Nat → Nat → Nat → Nat → Nat → Nat → Bool} {X_x1 X_x2 : Nat} {x1 x2 : Int32} (hk : ∀ ⦃R A M F S N P C G W B6 B7 B8 B9 B10 B11 B12 B13 : Nat⦄ ⦃r op pi cl gr wr : Int32⦄ ⦃c1 c2 c3 c4 c5 c6 c7 c8 c9 c10 c11 c12 c13 : Nat → Int32⦄, k R A M F S N P C G W B6 B7 B8 B9 B10 B11 B12 B13 = true → ab_rv e R r → ab_rg e A M F S N op c1 c2 c3 c4 c5 → ab_rv e P pi → ab_rv e C cl → ab_rv e G gr → ab_rv e W wr → ab_ra e 12 B6 c6 → ab_ra e 12 B7 c7 → ab_ra e 12 B8 c8 → ab_ra e 12 B9 c9 → ab_ra e 12 B10 c10 → ab_ra e 12 B11 c11 → ab_ra e 12 B12 c12 → ab_ra e 12 B13 c13 → post r (op, pi, cl, gr, wr, c1, c2, c3, c4, c5, c6, c7, c8, c9, c10, c11, c12, c13)) (h_x1 : ab_rv e X_x1 x1) (h_x2 : ab_rv e X_x2 x2) : ∀ (n : Nat) ⦃X_x3 X_x4 X_x5 X_f0_piled X_f0_clock X_f0_groups X_f0_wrong X_a1 M_a1 F_a1 S_a1 N_a1 X_a6 X_a7 X_a8 X_a9 X_a10 X_a11 X_a12 X_a13 : Nat⦄ ⦃x3 x4 x5 f0_op f0_piled f0_clock f0_groups f0_wrong : Int32⦄ ⦃a1 a2 a3 a4 a5 a6 a7 a8 a9 a10 a11 a12 a13 : Nat → Int32⦄, bz_checkChain_20 k X_x1 X_x2 n X_x3 X_x4 X_x5 X_f0_piled X_f0_clock X_f0_groups X_f0_wrong X_a1 M_a1 F_a1 S_a1 N_a1 X_a6 X_a7 X_a8 X_a9 X_a10 X_a11 X_a12 X_a13 = true → ab_rv e X_x3 x3 → ab_rv e X_x4 x4 → ab_rv e X_x5 x5 → ab_rv e X_f0_piled f0_piled → ab_rv e X_f0_clock f0_clock → ab_rv e X_f0_groups f0_groups → ab_rv e X_f0_wrong f0_wrong → ab_rg e X_a1 M_a1 F_a1 S_a1 N_a1 f0_op a1 a2 a3 a4 a5 → ab_ra e 12 X_a6 a6 → ab_ra e 12 X_a7 a7 → ab_ra e 12 X_a8 a8 → ab_ra e 12 X_a9 a9 → ab_ra e 12 X_a10 a10 → ab_ra e 12 X_a11 a11 → ab_ra e 12 X_a12 a12 → ab_ra e 12 X_a13 a13 → wX_checkChain_20 post x1 x2 n x3 x4 x5 f0_op f0_piled f0_clock f0_groups f0_wrong a1 a2 a3 a4 a5 a6 a7 a8 a9 a10 a11 a12 a13 := by
  intro n
  induction n with
  | zero =>
    intro X_x3 X_x4 X_x5 X_f0_piled X_f0_clock X_f0_groups X_f0_wrong X_a1 M_a1 F_a1 S_a1 N_a1 X_a6 X_a7 X_a8 X_a9 X_a10 X_a11 X_a12 X_a13 x3 x4 x5 f0_op f0_piled f0_clock f0_groups f0_wrong a1 a2 a3 a4 a5 a6 a7 a8 a9 a10 a11 a12 a13 hb h_x3 h_x4 h_x5 h_f0_piled h_f0_clock h_f0_groups h_f0_wrong g_a1 h_a6 h_a7 h_a8 h_a9 h_a10 h_a11 h_a12 h_a13
    exact absurd (show false = true from hb) (by decide)
  | succ n ih =>
    intro X_x3 X_x4 X_x5 X_f0_piled X_f0_clock X_f0_groups X_f0_wrong X_a1 M_a1 F_a1 S_a1 N_a1 X_a6 X_a7 X_a8 X_a9 X_a10 X_a11 X_a12 X_a13 x3 x4 x5 f0_op f0_piled f0_clock f0_groups f0_wrong a1 a2 a3 a4 a5 a6 a7 a8 a9 a10 a11 a12 a13 hb h_x3 h_x4 h_x5 h_f0_piled h_f0_clock h_f0_groups h_f0_wrong g_a1 h_a6 h_a7 h_a8 h_a9 h_a10 h_a11 h_a12 h_a13
    refine ab_ltS hb h_x5 ab_l0 (fun hb => ?_) (fun hb => ?_)
    · exact hk hb h_x4 g_a1 h_f0_piled h_f0_clock h_f0_groups h_f0_wrong h_a6 h_a7 h_a8 h_a9 h_a10 h_a11 h_a12 h_a13
    · refine ab_ltS hb ab_l24 h_x4 (fun hb => ?_) (fun hb => ?_)
      · exact hk hb h_x4 g_a1 h_f0_piled h_f0_clock h_f0_groups h_f0_wrong h_a6 h_a7 h_a8 h_a9 h_a10 h_a11 h_a12 h_a13
      · refine sz_arrowCell hb ?_ h_x5
        intro X_r_6 r_6 hb h_r_6
        refine ab_vinS hb (by decide) h_r_6 (fun hb => ?_)
        refine ab_eqS hb (ab_rdcS g_a1.1 h_r_6) ab_l1 (fun hb => ?_) (fun hb => ?_)
        · refine ab_vinS hb (by decide) (ab_addS (ab_addS h_r_6 ab_l1) h_x2) (fun hb => ?_)
          refine ab_eqS hb (ab_rdcS g_a1.1 (ab_addS (ab_addS h_r_6 ab_l1) h_x2)) h_x1 (fun hb => ?_) (fun hb => ?_)
          · refine ab_vinS hb (by decide) (ab_addS (ab_addS h_r_6 ab_l7) h_x2) (fun hb => ?_)
            refine ab_eqS hb (ab_rdcS g_a1.1 (ab_addS (ab_addS h_r_6 ab_l7) h_x2)) h_x3 (fun hb => ?_) (fun hb => ?_)
            · exact sz_checkChain_87 hb hk ih h_x1 h_x2 h_x4 h_x5 h_r_6 ab_l1 h_f0_piled h_f0_clock h_f0_groups h_f0_wrong g_a1 h_a6 h_a7 h_a8 h_a9 h_a10 h_a11 h_a12 h_a13
            · exact sz_checkChain_86 hb hk ih h_x1 h_x2 h_x4 h_x5 h_r_6 h_f0_piled h_f0_clock h_f0_groups h_f0_wrong g_a1 h_a6 h_a7 h_a8 h_a9 h_a10 h_a11 h_a12 h_a13
          · exact sz_checkChain_86 hb hk ih h_x1 h_x2 h_x4 h_x5 h_r_6 h_f0_piled h_f0_clock h_f0_groups h_f0_wrong g_a1 h_a6 h_a7 h_a8 h_a9 h_a10 h_a11 h_a12 h_a13
        · exact sz_checkChain_86 hb hk ih h_x1 h_x2 h_x4 h_x5 h_r_6 h_f0_piled h_f0_clock h_f0_groups h_f0_wrong g_a1 h_a6 h_a7 h_a8 h_a9 h_a10 h_a11 h_a12 h_a13
noncomputable def bz_checkChain (k : Nat → Nat → Nat → Nat → Nat → Nat → Nat → Nat → Nat → Nat → Nat → Nat → Nat → Nat → Nat → Nat → Nat → Nat → Bool) (X_a1 M_a1 F_a1 S_a1 N_a1 X_f0_piled X_f0_clock X_f0_groups X_f0_wrong X_a6 X_a7 X_a8 X_a9 X_a10 X_a11 X_a12 X_a13 X_p0 X_p1 : Nat) : Bool :=
  (bz_nodeAt (fun X_r_1 => (ab_vin 340 (ab_add (ab_add X_r_1 19) X_p1) (ab_str (ab_rdc X_a1 (ab_add (ab_add X_r_1 19) X_p1)) (fun X_x5_3 => (bz_checkChain_20 k X_p0 X_p1 200 15 16 X_x5_3 X_f0_piled X_f0_clock X_f0_groups X_f0_wrong X_a1 M_a1 F_a1 S_a1 N_a1 X_a6 X_a7 X_a8 X_a9 X_a10 X_a11 X_a12 X_a13))))) X_p0)
theorem sz_checkChain {e : Nat → Int32} {post : Int32 → St2 → Prop} {k : Nat → Nat → Nat → Nat → Nat → Nat → Nat → Nat → Nat → Nat → Nat → Nat → Nat → Nat → Nat → Nat → Nat → Nat → Bool} {X_a1 M_a1 F_a1 S_a1 N_a1 X_f0_piled X_f0_clock X_f0_groups X_f0_wrong X_a6 X_a7 X_a8 X_a9 X_a10 X_a11 X_a12 X_a13 X_p0 X_p1 : Nat} {f0_op f0_piled f0_clock f0_groups f0_wrong p0 p1 : Int32} {a1 a2 a3 a4 a5 a6 a7 a8 a9 a10 a11 a12 a13 : Nat → Int32} (hb : bz_checkChain k X_a1 M_a1 F_a1 S_a1 N_a1 X_f0_piled X_f0_clock X_f0_groups X_f0_wrong X_a6 X_a7 X_a8 X_a9 X_a10 X_a11 X_a12 X_a13 X_p0 X_p1 = true) (hk : ∀ ⦃R A M F S N P C G W B6 B7 B8 B9 B10 B11 B12 B13 : Nat⦄ ⦃r op pi cl gr wr : Int32⦄ ⦃c1 c2 c3 c4 c5 c6 c7 c8 c9 c10 c11 c12 c13 : Nat → Int32⦄, k R A M F S N P C G W B6 B7 B8 B9 B10 B11 B12 B13 = true → ab_rv e R r → ab_rg e A M F S N op c1 c2 c3 c4 c5 → ab_rv e P pi → ab_rv e C cl → ab_rv e G gr → ab_rv e W wr → ab_ra e 12 B6 c6 → ab_ra e 12 B7 c7 → ab_ra e 12 B8 c8 → ab_ra e 12 B9 c9 → ab_ra e 12 B10 c10 → ab_ra e 12 B11 c11 → ab_ra e 12 B12 c12 → ab_ra e 12 B13 c13 → post r (op, pi, cl, gr, wr, c1, c2, c3, c4, c5, c6, c7, c8, c9, c10, c11, c12, c13)) (g_a1 : ab_rg e X_a1 M_a1 F_a1 S_a1 N_a1 f0_op a1 a2 a3 a4 a5) (h_f0_piled : ab_rv e X_f0_piled f0_piled) (h_f0_clock : ab_rv e X_f0_clock f0_clock) (h_f0_groups : ab_rv e X_f0_groups f0_groups) (h_f0_wrong : ab_rv e X_f0_wrong f0_wrong) (h_a6 : ab_ra e 12 X_a6 a6) (h_a7 : ab_ra e 12 X_a7 a7) (h_a8 : ab_ra e 12 X_a8 a8) (h_a9 : ab_ra e 12 X_a9 a9) (h_a10 : ab_ra e 12 X_a10 a10) (h_a11 : ab_ra e 12 X_a11 a11) (h_a12 : ab_ra e 12 X_a12 a12) (h_a13 : ab_ra e 12 X_a13 a13) (h_p0 : ab_rv e X_p0 p0) (h_p1 : ab_rv e X_p1 p1) : wpX_checkChain post (f0_op, f0_piled, f0_clock, f0_groups, f0_wrong, a1, a2, a3, a4, a5, a6, a7, a8, a9, a10, a11, a12, a13) p0 p1 := by
  unfold wpX_checkChain
  refine sz_nodeAt hb ?_ h_p0
  intro X_r_1 r_1 hb h_r_1
  refine ab_vinS hb (by decide) (ab_addS (ab_addS h_r_1 ab_l3) h_p1) (fun hb => ?_)
  refine ab_letS hb (ab_rdcS g_a1.1 (ab_addS (ab_addS h_r_1 ab_l3) h_p1)) ?_
  intro X_x5_3 x5_3 hb h_x5_3
  exact ⟨200, sz_checkChain_20 hk h_p0 h_p1 200 hb ab_m1 ab_l0 h_x5_3 h_f0_piled h_f0_clock h_f0_groups h_f0_wrong g_a1 h_a6 h_a7 h_a8 h_a9 h_a10 h_a11 h_a12 h_a13⟩
noncomputable def bz_faults_159 (k : Nat → Nat → Nat → Nat → Nat → Nat → Nat → Nat → Nat → Nat → Nat → Nat → Nat → Nat → Nat → Nat → Nat → Nat → Bool) (X_z0 X_f0_piled X_f0_clock X_f0_groups X_f0_wrong X_am1311 M_am1311 F_am1311 S_am1311 N_am1311 X_am1316 X_am1317 X_am1318 X_am1319 X_am13110 X_am13111 X_am13112 X_am13113 : Nat) : Bool :=
  (bz_expect (fun X_am1591_147 M_am1591_147 F_am1591_147 S_am1591_147 N_am1591_147 X_f0_piled_141 X_f0_clock_142 X_f0_groups_143 X_f0_wrong_144 X_am1596_162 X_am1597_165 X_am1598_168 X_am1599_171 X_am15910_174 X_am15911_177 X_am15912_180 X_am15913_183 => (bz_checkRow (fun X_am1631_192 M_am1631_192 F_am1631_192 S_am1631_192 N_am1631_192 X_f0_piled_186 X_f0_clock_187 X_f0_groups_188 X_f0_wrong_189 X_am1636_207 X_am1637_210 X_am1638_213 X_am1639_216 X_am16310_219 X_am16311_222 X_am16312_225 X_am16313_228 => (k X_f0_wrong_189 X_am1631_192 M_am1631_192 F_am1631_192 S_am1631_192 N_am1631_192 X_f0_piled_186 X_f0_clock_187 X_f0_groups_188 X_f0_wrong_189 X_am1636_207 X_am1637_210 X_am1638_213 X_am1639_216 X_am16310_219 X_am16311_222 X_am16312_225 X_am16313_228)) X_am1591_147 M_am1591_147 F_am1591_147 S_am1591_147 N_am1591_147 X_f0_piled_141 X_f0_clock_142 X_f0_groups_143 X_f0_wrong_144 X_am1596_162 X_am1597_165 X_am1598_168 X_am1599_171 X_am15910_174 X_am15911_177 X_am15912_180 X_am15913_183)) X_am1311 M_am1311 F_am1311 S_am1311 N_am1311 X_f0_piled X_f0_clock X_f0_groups X_f0_wrong X_am1316 X_am1317 X_am1318 X_am1319 X_am13110 X_am13111 X_am13112 X_am13113 X_z0)
theorem sz_faults_159 {e : Nat → Int32} {post : Int32 → St2 → Prop} {k : Nat → Nat → Nat → Nat → Nat → Nat → Nat → Nat → Nat → Nat → Nat → Nat → Nat → Nat → Nat → Nat → Nat → Nat → Bool} {X_z0 X_f0_piled X_f0_clock X_f0_groups X_f0_wrong X_am1311 M_am1311 F_am1311 S_am1311 N_am1311 X_am1316 X_am1317 X_am1318 X_am1319 X_am13110 X_am13111 X_am13112 X_am13113 : Nat} {z0 f0_op f0_piled f0_clock f0_groups f0_wrong : Int32} {am1311 am1312 am1313 am1314 am1315 am1316 am1317 am1318 am1319 am13110 am13111 am13112 am13113 : Nat → Int32} (hb : bz_faults_159 k X_z0 X_f0_piled X_f0_clock X_f0_groups X_f0_wrong X_am1311 M_am1311 F_am1311 S_am1311 N_am1311 X_am1316 X_am1317 X_am1318 X_am1319 X_am13110 X_am13111 X_am13112 X_am13113 = true) (hk : ∀ ⦃R A M F S N P C G W B6 B7 B8 B9 B10 B11 B12 B13 : Nat⦄ ⦃r op pi cl gr wr : Int32⦄ ⦃c1 c2 c3 c4 c5 c6 c7 c8 c9 c10 c11 c12 c13 : Nat → Int32⦄, k R A M F S N P C G W B6 B7 B8 B9 B10 B11 B12 B13 = true → ab_rv e R r → ab_rg e A M F S N op c1 c2 c3 c4 c5 → ab_rv e P pi → ab_rv e C cl → ab_rv e G gr → ab_rv e W wr → ab_ra e 12 B6 c6 → ab_ra e 12 B7 c7 → ab_ra e 12 B8 c8 → ab_ra e 12 B9 c9 → ab_ra e 12 B10 c10 → ab_ra e 12 B11 c11 → ab_ra e 12 B12 c12 → ab_ra e 12 B13 c13 → post r (op, pi, cl, gr, wr, c1, c2, c3, c4, c5, c6, c7, c8, c9, c10, c11, c12, c13)) (h_z0 : ab_rv e X_z0 z0) (h_f0_piled : ab_rv e X_f0_piled f0_piled) (h_f0_clock : ab_rv e X_f0_clock f0_clock) (h_f0_groups : ab_rv e X_f0_groups f0_groups) (h_f0_wrong : ab_rv e X_f0_wrong f0_wrong) (g_am1311 : ab_rg e X_am1311 M_am1311 F_am1311 S_am1311 N_am1311 f0_op am1311 am1312 am1313 am1314 am1315) (h_am1316 : ab_ra e 12 X_am1316 am1316) (h_am1317 : ab_ra e 12 X_am1317 am1317) (h_am1318 : ab_ra e 12 X_am1318 am1318) (h_am1319 : ab_ra e 12 X_am1319 am1319) (h_am13110 : ab_ra e 12 X_am13110 am13110) (h_am13111 : ab_ra e 12 X_am13111 am13111) (h_am13112 : ab_ra e 12 X_am13112 am13112) (h_am13113 : ab_ra e 12 X_am13113 am13113) : wX_faults_159 post z0 f0_op f0_piled f0_clock f0_groups f0_wrong am1311 am1312 am1313 am1314 am1315 am1316 am1317 am1318 am1319 am13110 am13111 am13112 am13113 := by
  unfold wX_faults_159
  refine sz_expect hb ?_ g_am1311 h_f0_piled h_f0_clock h_f0_groups h_f0_wrong h_am1316 h_am1317 h_am1318 h_am1319 h_am13110 h_am13111 h_am13112 h_am13113 h_z0
  intro X_am1591_147 M_am1591_147 F_am1591_147 S_am1591_147 N_am1591_147 X_f0_piled_141 X_f0_clock_142 X_f0_groups_143 X_f0_wrong_144 X_am1596_162 X_am1597_165 X_am1598_168 X_am1599_171 X_am15910_174 X_am15911_177 X_am15912_180 X_am15913_183 f0_op_140 f0_piled_141 f0_clock_142 f0_groups_143 f0_wrong_144 am1591_147 am1592_150 am1593_153 am1594_156 am1595_159 am1596_162 am1597_165 am1598_168 am1599_171 am15910_174 am15911_177 am15912_180 am15913_183 hb g_am1591_147 h_f0_piled_141 h_f0_clock_142 h_f0_groups_143 h_f0_wrong_144 h_am1596_162 h_am1597_165 h_am1598_168 h_am1599_171 h_am15910_174 h_am15911_177 h_am15912_180 h_am15913_183
  refine sz_checkRow hb ?_ g_am1591_147 h_f0_piled_141 h_f0_clock_142 h_f0_groups_143 h_f0_wrong_144 h_am1596_162 h_am1597_165 h_am1598_168 h_am1599_171 h_am15910_174 h_am15911_177 h_am15912_180 h_am15913_183
  intro X_am1631_192 M_am1631_192 F_am1631_192 S_am1631_192 N_am1631_192 X_f0_piled_186 X_f0_clock_187 X_f0_groups_188 X_f0_wrong_189 X_am1636_207 X_am1637_210 X_am1638_213 X_am1639_216 X_am16310_219 X_am16311_222 X_am16312_225 X_am16313_228 f0_op_185 f0_piled_186 f0_clock_187 f0_groups_188 f0_wrong_189 am1631_192 am1632_195 am1633_198 am1634_201 am1635_204 am1636_207 am1637_210 am1638_213 am1639_216 am16310_219 am16311_222 am16312_225 am16313_228 hb g_am1631_192 h_f0_piled_186 h_f0_clock_187 h_f0_groups_188 h_f0_wrong_189 h_am1636_207 h_am1637_210 h_am1638_213 h_am1639_216 h_am16310_219 h_am16311_222 h_am16312_225 h_am16313_228
  exact hk hb h_f0_wrong_189 g_am1631_192 h_f0_piled_186 h_f0_clock_187 h_f0_groups_188 h_f0_wrong_189 h_am1636_207 h_am1637_210 h_am1638_213 h_am1639_216 h_am16310_219 h_am16311_222 h_am16312_225 h_am16313_228
noncomputable def bz_faults_158 (k : Nat → Nat → Nat → Nat → Nat → Nat → Nat → Nat → Nat → Nat → Nat → Nat → Nat → Nat → Nat → Nat → Nat → Nat → Bool) (X_f0_piled X_f0_clock X_f0_groups X_f0_wrong X_am1311 M_am1311 F_am1311 S_am1311 N_am1311 X_am1316 X_am1317 X_am1318 X_am1319 X_am13110 X_am13111 X_am13112 X_am13113 : Nat) : Bool :=
  (bz_faults_159 k 16 X_f0_piled X_f0_clock X_f0_groups X_f0_wrong X_am1311 M_am1311 F_am1311 S_am1311 N_am1311 X_am1316 X_am1317 X_am1318 X_am1319 X_am13110 X_am13111 X_am13112 X_am13113)
theorem sz_faults_158 {e : Nat → Int32} {post : Int32 → St2 → Prop} {k : Nat → Nat → Nat → Nat → Nat → Nat → Nat → Nat → Nat → Nat → Nat → Nat → Nat → Nat → Nat → Nat → Nat → Nat → Bool} {X_f0_piled X_f0_clock X_f0_groups X_f0_wrong X_am1311 M_am1311 F_am1311 S_am1311 N_am1311 X_am1316 X_am1317 X_am1318 X_am1319 X_am13110 X_am13111 X_am13112 X_am13113 : Nat} {f0_op f0_piled f0_clock f0_groups f0_wrong : Int32} {am1311 am1312 am1313 am1314 am1315 am1316 am1317 am1318 am1319 am13110 am13111 am13112 am13113 : Nat → Int32} (hb : bz_faults_158 k X_f0_piled X_f0_clock X_f0_groups X_f0_wrong X_am1311 M_am1311 F_am1311 S_am1311 N_am1311 X_am1316 X_am1317 X_am1318 X_am1319 X_am13110 X_am13111 X_am13112 X_am13113 = true) (hk : ∀ ⦃R A M F S N P C G W B6 B7 B8 B9 B10 B11 B12 B13 : Nat⦄ ⦃r op pi cl gr wr : Int32⦄ ⦃c1 c2 c3 c4 c5 c6 c7 c8 c9 c10 c11 c12 c13 : Nat → Int32⦄, k R A M F S N P C G W B6 B7 B8 B9 B10 B11 B12 B13 = true → ab_rv e R r → ab_rg e A M F S N op c1 c2 c3 c4 c5 → ab_rv e P pi → ab_rv e C cl → ab_rv e G gr → ab_rv e W wr → ab_ra e 12 B6 c6 → ab_ra e 12 B7 c7 → ab_ra e 12 B8 c8 → ab_ra e 12 B9 c9 → ab_ra e 12 B10 c10 → ab_ra e 12 B11 c11 → ab_ra e 12 B12 c12 → ab_ra e 12 B13 c13 → post r (op, pi, cl, gr, wr, c1, c2, c3, c4, c5, c6, c7, c8, c9, c10, c11, c12, c13)) (h_f0_piled : ab_rv e X_f0_piled f0_piled) (h_f0_clock : ab_rv e X_f0_clock f0_clock) (h_f0_groups : ab_rv e X_f0_groups f0_groups) (h_f0_wrong : ab_rv e X_f0_wrong f0_wrong) (g_am1311 : ab_rg e X_am1311 M_am1311 F_am1311 S_am1311 N_am1311 f0_op am1311 am1312 am1313 am1314 am1315) (h_am1316 : ab_ra e 12 X_am1316 am1316) (h_am1317 : ab_ra e 12 X_am1317 am1317) (h_am1318 : ab_ra e 12 X_am1318 am1318) (h_am1319 : ab_ra e 12 X_am1319 am1319) (h_am13110 : ab_ra e 12 X_am13110 am13110) (h_am13111 : ab_ra e 12 X_am13111 am13111) (h_am13112 : ab_ra e 12 X_am13112 am13112) (h_am13113 : ab_ra e 12 X_am13113 am13113) : wX_faults_158 post f0_op f0_piled f0_clock f0_groups f0_wrong am1311 am1312 am1313 am1314 am1315 am1316 am1317 am1318 am1319 am13110 am13111 am13112 am13113 := by
  exact sz_faults_159 hb hk ab_l0 h_f0_piled h_f0_clock h_f0_groups h_f0_wrong g_am1311 h_am1316 h_am1317 h_am1318 h_am1319 h_am13110 h_am13111 h_am13112 h_am13113
noncomputable def bz_faults_110 (k : Nat → Nat → Nat → Nat → Nat → Nat → Nat → Nat → Nat → Nat → Nat → Nat → Nat → Nat → Nat → Nat → Nat → Nat → Bool) (X_x1 X_x2 X_z0 X_f0_piled X_f0_clock X_f0_groups X_f0_wrong X_a1 M_a1 F_a1 S_a1 N_a1 X_a6 X_a7 X_a8 X_a9 X_a10 X_a11 X_a12 X_a13 : Nat) : Bool :=
  (bz_expect (fun X_am1101_11 M_am1101_11 F_am1101_11 S_am1101_11 N_am1101_11 X_f0_piled_5 X_f0_clock_6 X_f0_groups_7 X_f0_wrong_8 X_am1106_26 X_am1107_29 X_am1108_32 X_am1109_35 X_am11010_38 X_am11011_41 X_am11012_44 X_am11013_47 => (bz_checkFree (fun X_r_48 X_am1201_56 M_am1201_56 F_am1201_56 S_am1201_56 N_am1201_56 X_f0_piled_50 X_f0_clock_51 X_f0_groups_52 X_f0_wrong_53 X_am1206_71 X_am1207_74 X_am1208_77 X_am1209_80 X_am12010_83 X_am12011_86 X_am12012_89 X_am12013_92 => (bz_checkFree (fun X_r_93 X_am1311_101 M_am1311_101 F_am1311_101 S_am1311_101 N_am1311_101 X_f0_piled_95 X_f0_clock_96 X_f0_groups_97 X_f0_wrong_98 X_am1316_116 X_am1317_119 X_am1318_122 X_am1319_125 X_am13110_128 X_am13111_131 X_am13112_134 X_am13113_137 => (ab_eq X_r_48 (ab_sub 28 X_x1) (ab_eq X_r_93 (ab_sub 40 X_x2) (bz_faults_159 k 17 X_f0_piled_95 X_f0_clock_96 X_f0_groups_97 X_f0_wrong_98 X_am1311_101 M_am1311_101 F_am1311_101 S_am1311_101 N_am1311_101 X_am1316_116 X_am1317_119 X_am1318_122 X_am1319_125 X_am13110_128 X_am13111_131 X_am13112_134 X_am13113_137) (bz_faults_158 k X_f0_piled_95 X_f0_clock_96 X_f0_groups_97 X_f0_wrong_98 X_am1311_101 M_am1311_101 F_am1311_101 S_am1311_101 N_am1311_101 X_am1316_116 X_am1317_119 X_am1318_122 X_am1319_125 X_am13110_128 X_am13111_131 X_am13112_134 X_am13113_137)) (bz_faults_158 k X_f0_piled_95 X_f0_clock_96 X_f0_groups_97 X_f0_wrong_98 X_am1311_101 M_am1311_101 F_am1311_101 S_am1311_101 N_am1311_101 X_am1316_116 X_am1317_119 X_am1318_122 X_am1319_125 X_am13110_128 X_am13111_131 X_am13112_134 X_am13113_137))) X_am1201_56 M_am1201_56 F_am1201_56 S_am1201_56 N_am1201_56 X_f0_piled_50 X_f0_clock_51 X_f0_groups_52 X_f0_wrong_53 X_am1206_71 X_am1207_74 X_am1208_77 X_am1209_80 X_am12010_83 X_am12011_86 X_am12012_89 X_am12013_92 17 116 26 21)) X_am1101_11 M_am1101_11 F_am1101_11 S_am1101_11 N_am1101_11 X_f0_piled_5 X_f0_clock_6 X_f0_groups_7 X_f0_wrong_8 X_am1106_26 X_am1107_29 X_am1108_32 X_am1109_35 X_am11010_38 X_am11011_41 X_am11012_44 X_am11013_47 16 32 23 21)) X_a1 M_a1 F_a1 S_a1 N_a1 X_f0_piled X_f0_clock X_f0_groups X_f0_wrong X_a6 X_a7 X_a8 X_a9 X_a10 X_a11 X_a12 X_a13 X_z0)
theorem sz_faults_110 {e : Nat → Int32} {post : Int32 → St2 → Prop} {k : Nat → Nat → Nat → Nat → Nat → Nat → Nat → Nat → Nat → Nat → Nat → Nat → Nat → Nat → Nat → Nat → Nat → Nat → Bool} {X_x1 X_x2 X_z0 X_f0_piled X_f0_clock X_f0_groups X_f0_wrong X_a1 M_a1 F_a1 S_a1 N_a1 X_a6 X_a7 X_a8 X_a9 X_a10 X_a11 X_a12 X_a13 : Nat} {x1 x2 z0 f0_op f0_piled f0_clock f0_groups f0_wrong : Int32} {a1 a2 a3 a4 a5 a6 a7 a8 a9 a10 a11 a12 a13 : Nat → Int32} (hb : bz_faults_110 k X_x1 X_x2 X_z0 X_f0_piled X_f0_clock X_f0_groups X_f0_wrong X_a1 M_a1 F_a1 S_a1 N_a1 X_a6 X_a7 X_a8 X_a9 X_a10 X_a11 X_a12 X_a13 = true) (hk : ∀ ⦃R A M F S N P C G W B6 B7 B8 B9 B10 B11 B12 B13 : Nat⦄ ⦃r op pi cl gr wr : Int32⦄ ⦃c1 c2 c3 c4 c5 c6 c7 c8 c9 c10 c11 c12 c13 : Nat → Int32⦄, k R A M F S N P C G W B6 B7 B8 B9 B10 B11 B12 B13 = true → ab_rv e R r → ab_rg e A M F S N op c1 c2 c3 c4 c5 → ab_rv e P pi → ab_rv e C cl → ab_rv e G gr → ab_rv e W wr → ab_ra e 12 B6 c6 → ab_ra e 12 B7 c7 → ab_ra e 12 B8 c8 → ab_ra e 12 B9 c9 → ab_ra e 12 B10 c10 → ab_ra e 12 B11 c11 → ab_ra e 12 B12 c12 → ab_ra e 12 B13 c13 → post r (op, pi, cl, gr, wr, c1, c2, c3, c4, c5, c6, c7, c8, c9, c10, c11, c12, c13)) (h_x1 : ab_rv e X_x1 x1) (h_x2 : ab_rv e X_x2 x2) (h_z0 : ab_rv e X_z0 z0) (h_f0_piled : ab_rv e X_f0_piled f0_piled) (h_f0_clock : ab_rv e X_f0_clock f0_clock) (h_f0_groups : ab_rv e X_f0_groups f0_groups) (h_f0_wrong : ab_rv e X_f0_wrong f0_wrong) (g_a1 : ab_rg e X_a1 M_a1 F_a1 S_a1 N_a1 f0_op a1 a2 a3 a4 a5) (h_a6 : ab_ra e 12 X_a6 a6) (h_a7 : ab_ra e 12 X_a7 a7) (h_a8 : ab_ra e 12 X_a8 a8) (h_a9 : ab_ra e 12 X_a9 a9) (h_a10 : ab_ra e 12 X_a10 a10) (h_a11 : ab_ra e 12 X_a11 a11) (h_a12 : ab_ra e 12 X_a12 a12) (h_a13 : ab_ra e 12 X_a13 a13) : wX_faults_110 post x1 x2 z0 f0_op f0_piled f0_clock f0_groups f0_wrong a1 a2 a3 a4 a5 a6 a7 a8 a9 a10 a11 a12 a13 := by
  unfold wX_faults_110
  refine sz_expect hb ?_ g_a1 h_f0_piled h_f0_clock h_f0_groups h_f0_wrong h_a6 h_a7 h_a8 h_a9 h_a10 h_a11 h_a12 h_a13 h_z0
  intro X_am1101_11 M_am1101_11 F_am1101_11 S_am1101_11 N_am1101_11 X_f0_piled_5 X_f0_clock_6 X_f0_groups_7 X_f0_wrong_8 X_am1106_26 X_am1107_29 X_am1108_32 X_am1109_35 X_am11010_38 X_am11011_41 X_am11012_44 X_am11013_47 f0_op_4 f0_piled_5 f0_clock_6 f0_groups_7 f0_wrong_8 am1101_11 am1102_14 am1103_17 am1104_20 am1105_23 am1106_26 am1107_29 am1108_32 am1109_35 am11010_38 am11011_41 am11012_44 am11013_47 hb g_am1101_11 h_f0_piled_5 h_f0_clock_6 h_f0_groups_7 h_f0_wrong_8 h_am1106_26 h_am1107_29 h_am1108_32 h_am1109_35 h_am11010_38 h_am11011_41 h_am11012_44 h_am11013_47
  refine sz_checkFree hb ?_ g_am1101_11 h_f0_piled_5 h_f0_clock_6 h_f0_groups_7 h_f0_wrong_8 h_am1106_26 h_am1107_29 h_am1108_32 h_am1109_35 h_am11010_38 h_am11011_41 h_am11012_44 h_am11013_47 ab_l0 ab_l16 ab_l7 ab_l5
  intro X_r_48 X_am1201_56 M_am1201_56 F_am1201_56 S_am1201_56 N_am1201_56 X_f0_piled_50 X_f0_clock_51 X_f0_groups_52 X_f0_wrong_53 X_am1206_71 X_am1207_74 X_am1208_77 X_am1209_80 X_am12010_83 X_am12011_86 X_am12012_89 X_am12013_92 r_48 f0_op_49 f0_piled_50 f0_clock_51 f0_groups_52 f0_wrong_53 am1201_56 am1202_59 am1203_62 am1204_65 am1205_68 am1206_71 am1207_74 am1208_77 am1209_80 am12010_83 am12011_86 am12012_89 am12013_92 hb h_r_48 g_am1201_56 h_f0_piled_50 h_f0_clock_51 h_f0_groups_52 h_f0_wrong_53 h_am1206_71 h_am1207_74 h_am1208_77 h_am1209_80 h_am12010_83 h_am12011_86 h_am12012_89 h_am12013_92
  refine sz_checkFree hb ?_ g_am1201_56 h_f0_piled_50 h_f0_clock_51 h_f0_groups_52 h_f0_wrong_53 h_am1206_71 h_am1207_74 h_am1208_77 h_am1209_80 h_am12010_83 h_am12011_86 h_am12012_89 h_am12013_92 ab_l1 ab_l100 ab_l10 ab_l5
  intro X_r_93 X_am1311_101 M_am1311_101 F_am1311_101 S_am1311_101 N_am1311_101 X_f0_piled_95 X_f0_clock_96 X_f0_groups_97 X_f0_wrong_98 X_am1316_116 X_am1317_119 X_am1318_122 X_am1319_125 X_am13110_128 X_am13111_131 X_am13112_134 X_am13113_137 r_93 f0_op_94 f0_piled_95 f0_clock_96 f0_groups_97 f0_wrong_98 am1311_101 am1312_104 am1313_107 am1314_110 am1315_113 am1316_116 am1317_119 am1318_122 am1319_125 am13110_128 am13111_131 am13112_134 am13113_137 hb h_r_93 g_am1311_101 h_f0_piled_95 h_f0_clock_96 h_f0_groups_97 h_f0_wrong_98 h_am1316_116 h_am1317_119 h_am1318_122 h_am1319_125 h_am13110_128 h_am13111_131 h_am13112_134 h_am13113_137
  refine ab_eqS hb h_r_48 (ab_subS ab_l12 h_x1) (fun hb => ?_) (fun hb => ?_)
  · refine ab_eqS hb h_r_93 (ab_subS ab_l24 h_x2) (fun hb => ?_) (fun hb => ?_)
    · exact sz_faults_159 hb hk ab_l1 h_f0_piled_95 h_f0_clock_96 h_f0_groups_97 h_f0_wrong_98 g_am1311_101 h_am1316_116 h_am1317_119 h_am1318_122 h_am1319_125 h_am13110_128 h_am13111_131 h_am13112_134 h_am13113_137
    · exact sz_faults_158 hb hk h_f0_piled_95 h_f0_clock_96 h_f0_groups_97 h_f0_wrong_98 g_am1311_101 h_am1316_116 h_am1317_119 h_am1318_122 h_am1319_125 h_am13110_128 h_am13111_131 h_am13112_134 h_am13113_137
  · exact sz_faults_158 hb hk h_f0_piled_95 h_f0_clock_96 h_f0_groups_97 h_f0_wrong_98 g_am1311_101 h_am1316_116 h_am1317_119 h_am1318_122 h_am1319_125 h_am13110_128 h_am13111_131 h_am13112_134 h_am13113_137
noncomputable def bz_faults_109 (k : Nat → Nat → Nat → Nat → Nat → Nat → Nat → Nat → Nat → Nat → Nat → Nat → Nat → Nat → Nat → Nat → Nat → Nat → Bool) (X_x1 X_x2 X_f0_piled X_f0_clock X_f0_groups X_f0_wrong X_a1 M_a1 F_a1 S_a1 N_a1 X_a6 X_a7 X_a8 X_a9 X_a10 X_a11 X_a12 X_a13 : Nat) : Bool :=
  (bz_faults_110 k X_x1 X_x2 16 X_f0_piled X_f0_clock X_f0_groups X_f0_wrong X_a1 M_a1 F_a1 S_a1 N_a1 X_a6 X_a7 X_a8 X_a9 X_a10 X_a11 X_a12 X_a13)
theorem sz_faults_109 {e : Nat → Int32} {post : Int32 → St2 → Prop} {k : Nat → Nat → Nat → Nat → Nat → Nat → Nat → Nat → Nat → Nat → Nat → Nat → Nat → Nat → Nat → Nat → Nat → Nat → Bool} {X_x1 X_x2 X_f0_piled X_f0_clock X_f0_groups X_f0_wrong X_a1 M_a1 F_a1 S_a1 N_a1 X_a6 X_a7 X_a8 X_a9 X_a10 X_a11 X_a12 X_a13 : Nat} {x1 x2 f0_op f0_piled f0_clock f0_groups f0_wrong : Int32} {a1 a2 a3 a4 a5 a6 a7 a8 a9 a10 a11 a12 a13 : Nat → Int32} (hb : bz_faults_109 k X_x1 X_x2 X_f0_piled X_f0_clock X_f0_groups X_f0_wrong X_a1 M_a1 F_a1 S_a1 N_a1 X_a6 X_a7 X_a8 X_a9 X_a10 X_a11 X_a12 X_a13 = true) (hk : ∀ ⦃R A M F S N P C G W B6 B7 B8 B9 B10 B11 B12 B13 : Nat⦄ ⦃r op pi cl gr wr : Int32⦄ ⦃c1 c2 c3 c4 c5 c6 c7 c8 c9 c10 c11 c12 c13 : Nat → Int32⦄, k R A M F S N P C G W B6 B7 B8 B9 B10 B11 B12 B13 = true → ab_rv e R r → ab_rg e A M F S N op c1 c2 c3 c4 c5 → ab_rv e P pi → ab_rv e C cl → ab_rv e G gr → ab_rv e W wr → ab_ra e 12 B6 c6 → ab_ra e 12 B7 c7 → ab_ra e 12 B8 c8 → ab_ra e 12 B9 c9 → ab_ra e 12 B10 c10 → ab_ra e 12 B11 c11 → ab_ra e 12 B12 c12 → ab_ra e 12 B13 c13 → post r (op, pi, cl, gr, wr, c1, c2, c3, c4, c5, c6, c7, c8, c9, c10, c11, c12, c13)) (h_x1 : ab_rv e X_x1 x1) (h_x2 : ab_rv e X_x2 x2) (h_f0_piled : ab_rv e X_f0_piled f0_piled) (h_f0_clock : ab_rv e X_f0_clock f0_clock) (h_f0_groups : ab_rv e X_f0_groups f0_groups) (h_f0_wrong : ab_rv e X_f0_wrong f0_wrong) (g_a1 : ab_rg e X_a1 M_a1 F_a1 S_a1 N_a1 f0_op a1 a2 a3 a4 a5) (h_a6 : ab_ra e 12 X_a6 a6) (h_a7 : ab_ra e 12 X_a7 a7) (h_a8 : ab_ra e 12 X_a8 a8) (h_a9 : ab_ra e 12 X_a9 a9) (h_a10 : ab_ra e 12 X_a10 a10) (h_a11 : ab_ra e 12 X_a11 a11) (h_a12 : ab_ra e 12 X_a12 a12) (h_a13 : ab_ra e 12 X_a13 a13) : wX_faults_109 post x1 x2 f0_op f0_piled f0_clock f0_groups f0_wrong a1 a2 a3 a4 a5 a6 a7 a8 a9 a10 a11 a12 a13 := by
  exact sz_faults_110 hb hk h_x1 h_x2 ab_l0 h_f0_piled h_f0_clock h_f0_groups h_f0_wrong g_a1 h_a6 h_a7 h_a8 h_a9 h_a10 h_a11 h_a12 h_a13
noncomputable def bz_faults_75 (k : Nat → Nat → Nat → Nat → Nat → Nat → Nat → Nat → Nat → Nat → Nat → Nat → Nat → Nat → Nat → Nat → Nat → Nat → Bool) (J11 : Nat → Nat → Nat → Nat → Nat → Nat → Nat → Nat → Nat → Nat → Nat → Nat → Nat → Nat → Nat → Nat → Nat → Nat → Nat → Nat → Bool) (X_x1 X_x2 X_x3 X_z0 X_f0_piled X_f0_clock X_f0_groups X_f0_wrong X_am441 M_am441 F_am441 S_am441 N_am441 X_am446 X_am447 X_am448 X_am449 X_am4410 X_am4411 X_am4412 X_am4413 : Nat) : Bool :=
  (bz_expect (fun X_am751_337 M_am751_337 F_am751_337 S_am751_337 N_am751_337 X_f0_piled_331 X_f0_clock_332 X_f0_groups_333 X_f0_wrong_334 X_am756_352 X_am757_355 X_am758_358 X_am759_361 X_am7510_364 X_am7511_367 X_am7512_370 X_am7513_373 => (ab_str (ab_add X_x3 17) (fun X_x3_374 => (J11 X_x1 X_x2 X_x3_374 X_f0_piled_331 X_f0_clock_332 X_f0_groups_333 X_f0_wrong_334 X_am751_337 M_am751_337 F_am751_337 S_am751_337 N_am751_337 X_am756_352 X_am757_355 X_am758_358 X_am759_361 X_am7510_364 X_am7511_367 X_am7512_370 X_am7513_373)))) X_am441 M_am441 F_am441 S_am441 N_am441 X_f0_piled X_f0_clock X_f0_groups X_f0_wrong X_am446 X_am447 X_am448 X_am449 X_am4410 X_am4411 X_am4412 X_am4413 X_z0)
theorem sz_faults_75 {e : Nat → Int32} {post : Int32 → St2 → Prop} {k : Nat → Nat → Nat → Nat → Nat → Nat → Nat → Nat → Nat → Nat → Nat → Nat → Nat → Nat → Nat → Nat → Nat → Nat → Bool} {J11 : Nat → Nat → Nat → Nat → Nat → Nat → Nat → Nat → Nat → Nat → Nat → Nat → Nat → Nat → Nat → Nat → Nat → Nat → Nat → Nat → Bool} {CJ11 : Int32 → Int32 → Int32 → Int32 → Int32 → Int32 → Int32 → Int32 → (Nat → Int32) → (Nat → Int32) → (Nat → Int32) → (Nat → Int32) → (Nat → Int32) → (Nat → Int32) → (Nat → Int32) → (Nat → Int32) → (Nat → Int32) → (Nat → Int32) → (Nat → Int32) → (Nat → Int32) → (Nat → Int32) → Prop} {X_x1 X_x2 X_x3 X_z0 X_f0_piled X_f0_clock X_f0_groups X_f0_wrong X_am441 M_am441 F_am441 S_am441 N_am441 X_am446 X_am447 X_am448 X_am449 X_am4410 X_am4411 X_am4412 X_am4413 : Nat} {x1 x2 x3 z0 f0_op f0_piled f0_clock f0_groups f0_wrong : Int32} {am441 am442 am443 am444 am445 am446 am447 am448 am449 am4410 am4411 am4412 am4413 : Nat → Int32} (hb : bz_faults_75 k J11 X_x1 X_x2 X_x3 X_z0 X_f0_piled X_f0_clock X_f0_groups X_f0_wrong X_am441 M_am441 F_am441 S_am441 N_am441 X_am446 X_am447 X_am448 X_am449 X_am4410 X_am4411 X_am4412 X_am4413 = true) (hk : ∀ ⦃R A M F S N P C G W B6 B7 B8 B9 B10 B11 B12 B13 : Nat⦄ ⦃r op pi cl gr wr : Int32⦄ ⦃c1 c2 c3 c4 c5 c6 c7 c8 c9 c10 c11 c12 c13 : Nat → Int32⦄, k R A M F S N P C G W B6 B7 B8 B9 B10 B11 B12 B13 = true → ab_rv e R r → ab_rg e A M F S N op c1 c2 c3 c4 c5 → ab_rv e P pi → ab_rv e C cl → ab_rv e G gr → ab_rv e W wr → ab_ra e 12 B6 c6 → ab_ra e 12 B7 c7 → ab_ra e 12 B8 c8 → ab_ra e 12 B9 c9 → ab_ra e 12 B10 c10 → ab_ra e 12 B11 c11 → ab_ra e 12 B12 c12 → ab_ra e 12 B13 c13 → post r (op, pi, cl, gr, wr, c1, c2, c3, c4, c5, c6, c7, c8, c9, c10, c11, c12, c13)) (hJ11 : ∀ ⦃X_x1 X_x2 X_x3 X_f0_piled X_f0_clock X_f0_groups X_f0_wrong X_a1 M_a1 F_a1 S_a1 N_a1 X_a6 X_a7 X_a8 X_a9 X_a10 X_a11 X_a12 X_a13 : Nat⦄ ⦃x1 x2 x3 f0_op f0_piled f0_clock f0_groups f0_wrong : Int32⦄ ⦃a1 a2 a3 a4 a5 a6 a7 a8 a9 a10 a11 a12 a13 : Nat → Int32⦄, J11 X_x1 X_x2 X_x3 X_f0_piled X_f0_clock X_f0_groups X_f0_wrong X_a1 M_a1 F_a1 S_a1 N_a1 X_a6 X_a7 X_a8 X_a9 X_a10 X_a11 X_a12 X_a13 = true → ab_rv e X_x1 x1 → ab_rv e X_x2 x2 → ab_rv e X_x3 x3 → ab_rv e X_f0_piled f0_piled → ab_rv e X_f0_clock f0_clock → ab_rv e X_f0_groups f0_groups → ab_rv e X_f0_wrong f0_wrong → ab_rg e X_a1 M_a1 F_a1 S_a1 N_a1 f0_op a1 a2 a3 a4 a5 → ab_ra e 12 X_a6 a6 → ab_ra e 12 X_a7 a7 → ab_ra e 12 X_a8 a8 → ab_ra e 12 X_a9 a9 → ab_ra e 12 X_a10 a10 → ab_ra e 12 X_a11 a11 → ab_ra e 12 X_a12 a12 → ab_ra e 12 X_a13 a13 → CJ11 x1 x2 x3 f0_op f0_piled f0_clock f0_groups f0_wrong a1 a2 a3 a4 a5 a6 a7 a8 a9 a10 a11 a12 a13) (h_x1 : ab_rv e X_x1 x1) (h_x2 : ab_rv e X_x2 x2) (h_x3 : ab_rv e X_x3 x3) (h_z0 : ab_rv e X_z0 z0) (h_f0_piled : ab_rv e X_f0_piled f0_piled) (h_f0_clock : ab_rv e X_f0_clock f0_clock) (h_f0_groups : ab_rv e X_f0_groups f0_groups) (h_f0_wrong : ab_rv e X_f0_wrong f0_wrong) (g_am441 : ab_rg e X_am441 M_am441 F_am441 S_am441 N_am441 f0_op am441 am442 am443 am444 am445) (h_am446 : ab_ra e 12 X_am446 am446) (h_am447 : ab_ra e 12 X_am447 am447) (h_am448 : ab_ra e 12 X_am448 am448) (h_am449 : ab_ra e 12 X_am449 am449) (h_am4410 : ab_ra e 12 X_am4410 am4410) (h_am4411 : ab_ra e 12 X_am4411 am4411) (h_am4412 : ab_ra e 12 X_am4412 am4412) (h_am4413 : ab_ra e 12 X_am4413 am4413) : wX_faults_75 post CJ11 x1 x2 x3 z0 f0_op f0_piled f0_clock f0_groups f0_wrong am441 am442 am443 am444 am445 am446 am447 am448 am449 am4410 am4411 am4412 am4413 := by
  unfold wX_faults_75
  refine sz_expect hb ?_ g_am441 h_f0_piled h_f0_clock h_f0_groups h_f0_wrong h_am446 h_am447 h_am448 h_am449 h_am4410 h_am4411 h_am4412 h_am4413 h_z0
  intro X_am751_337 M_am751_337 F_am751_337 S_am751_337 N_am751_337 X_f0_piled_331 X_f0_clock_332 X_f0_groups_333 X_f0_wrong_334 X_am756_352 X_am757_355 X_am758_358 X_am759_361 X_am7510_364 X_am7511_367 X_am7512_370 X_am7513_373 f0_op_330 f0_piled_331 f0_clock_332 f0_groups_333 f0_wrong_334 am751_337 am752_340 am753_343 am754_346 am755_349 am756_352 am757_355 am758_358 am759_361 am7510_364 am7511_367 am7512_370 am7513_373 hb g_am751_337 h_f0_piled_331 h_f0_clock_332 h_f0_groups_333 h_f0_wrong_334 h_am756_352 h_am757_355 h_am758_358 h_am759_361 h_am7510_364 h_am7511_367 h_am7512_370 h_am7513_373
  refine ab_letS hb (ab_addS h_x3 ab_l1) ?_
  intro X_x3_374 x3_374 hb h_x3_374
  exact hJ11 hb h_x1 h_x2 h_x3_374 h_f0_piled_331 h_f0_clock_332 h_f0_groups_333 h_f0_wrong_334 g_am751_337 h_am756_352 h_am757_355 h_am758_358 h_am759_361 h_am7510_364 h_am7511_367 h_am7512_370 h_am7513_373
noncomputable def bz_faults_11 (k : Nat → Nat → Nat → Nat → Nat → Nat → Nat → Nat → Nat → Nat → Nat → Nat → Nat → Nat → Nat → Nat → Nat → Nat → Bool) (n : Nat) : Nat → Nat → Nat → Nat → Nat → Nat → Nat → Nat → Nat → Nat → Nat → Nat → Nat → Nat → Nat → Nat → Nat → Nat → Nat → Nat → Bool :=
  Nat.rec (motive := fun _ => Nat → Nat → Nat → Nat → Nat → Nat → Nat → Nat → Nat → Nat → Nat → Nat → Nat → Nat → Nat → Nat → Nat → Nat → Nat → Nat → Bool) (fun _ _ _ _ _ _ _ _ _ _ _ _ _ _ _ _ _ _ _ _ => false) (fun _ ih => fun X_x1 X_x2 X_x3 X_f0_piled X_f0_clock X_f0_groups X_f0_wrong X_a1 M_a1 F_a1 S_a1 N_a1 X_a6 X_a7 X_a8 X_a9 X_a10 X_a11 X_a12 X_a13 => (ab_le 28 X_x3 (ab_eq X_x1 (ab_get X_a1 2) (ab_eq X_x2 (ab_get X_a1 3) (bz_faults_110 k X_x1 X_x2 17 X_f0_piled X_f0_clock X_f0_groups X_f0_wrong X_a1 M_a1 F_a1 S_a1 N_a1 X_a6 X_a7 X_a8 X_a9 X_a10 X_a11 X_a12 X_a13) (bz_faults_109 k X_x1 X_x2 X_f0_piled X_f0_clock X_f0_groups X_f0_wrong X_a1 M_a1 F_a1 S_a1 N_a1 X_a6 X_a7 X_a8 X_a9 X_a10 X_a11 X_a12 X_a13)) (bz_faults_109 k X_x1 X_x2 X_f0_piled X_f0_clock X_f0_groups X_f0_wrong X_a1 M_a1 F_a1 S_a1 N_a1 X_a6 X_a7 X_a8 X_a9 X_a10 X_a11 X_a12 X_a13)) (bz_isNode (fun X_r_231 => (ab_eq X_r_231 16 (ab_str (ab_add X_x3 17) (fun X_x3_233 => (ih X_x1 X_x2 X_x3_233 X_f0_piled X_f0_clock X_f0_groups X_f0_wrong X_a1 M_a1 F_a1 S_a1 N_a1 X_a6 X_a7 X_a8 X_a9 X_a10 X_a11 X_a12 X_a13))) (ab_str (ab_add X_x1 17) (fun X_x1_234 => (bz_checkChain (fun X_r_235 X_am311_243 M_am311_243 F_am311_243 S_am311_243 N_am311_243 X_f0_piled_237 X_f0_clock_238 X_f0_groups_239 X_f0_wrong_240 X_am316_258 X_am317_261 X_am318_264 X_am319_267 X_am3110_270 X_am3111_273 X_am3112_276 X_am3113_279 => (ab_str (ab_add X_x2 X_r_235) (fun X_x2_280 => (bz_checkChain (fun X_r_281 X_am441_289 M_am441_289 F_am441_289 S_am441_289 N_am441_289 X_f0_piled_283 X_f0_clock_284 X_f0_groups_285 X_f0_wrong_286 X_am446_304 X_am447_307 X_am448_310 X_am449_313 X_am4410_316 X_am4411_319 X_am4412_322 X_am4413_325 => (bz_nodeAt (fun X_r_326 => (ab_vin 340 (ab_add X_r_326 22) (ab_eq (ab_rdc X_am441_289 (ab_add X_r_326 22)) (ab_add X_r_235 X_r_281) (bz_faults_75 k ih X_x1_234 X_x2_280 X_x3 17 X_f0_piled_283 X_f0_clock_284 X_f0_groups_285 X_f0_wrong_286 X_am441_289 M_am441_289 F_am441_289 S_am441_289 N_am441_289 X_am446_304 X_am447_307 X_am448_310 X_am449_313 X_am4410_316 X_am4411_319 X_am4412_322 X_am4413_325) (bz_faults_75 k ih X_x1_234 X_x2_280 X_x3 16 X_f0_piled_283 X_f0_clock_284 X_f0_groups_285 X_f0_wrong_286 X_am441_289 M_am441_289 F_am441_289 S_am441_289 N_am441_289 X_am446_304 X_am447_307 X_am448_310 X_am449_313 X_am4410_316 X_am4411_319 X_am4412_322 X_am4413_325)))) X_x3)) X_am311_243 M_am311_243 F_am311_243 S_am311_243 N_am311_243 X_f0_piled_237 X_f0_clock_238 X_f0_groups_239 X_f0_wrong_240 X_am316_258 X_am317_261 X_am318_264 X_am319_267 X_am3110_270 X_am3111_273 X_am3112_276 X_am3113_279 X_x3 17)))) X_a1 M_a1 F_a1 S_a1 N_a1 X_f0_piled X_f0_clock X_f0_groups X_f0_wrong X_a6 X_a7 X_a8 X_a9 X_a10 X_a11 X_a12 X_a13 X_x3 16))))) X_a1 M_a1 F_a1 S_a1 N_a1 X_f0_piled X_f0_clock X_f0_groups X_f0_wrong X_a6 X_a7 X_a8 X_a9 X_a10 X_a11 X_a12 X_a13 X_x3))) n
theorem sz_faults_11 {e : Nat → Int32} {post : Int32 → St2 → Prop} {k : Nat → Nat → Nat → Nat → Nat → Nat → Nat → Nat → Nat → Nat → Nat → Nat → Nat → Nat → Nat → Nat → Nat → Nat → Bool} (hk : ∀ ⦃R A M F S N P C G W B6 B7 B8 B9 B10 B11 B12 B13 : Nat⦄ ⦃r op pi cl gr wr : Int32⦄ ⦃c1 c2 c3 c4 c5 c6 c7 c8 c9 c10 c11 c12 c13 : Nat → Int32⦄, k R A M F S N P C G W B6 B7 B8 B9 B10 B11 B12 B13 = true → ab_rv e R r → ab_rg e A M F S N op c1 c2 c3 c4 c5 → ab_rv e P pi → ab_rv e C cl → ab_rv e G gr → ab_rv e W wr → ab_ra e 12 B6 c6 → ab_ra e 12 B7 c7 → ab_ra e 12 B8 c8 → ab_ra e 12 B9 c9 → ab_ra e 12 B10 c10 → ab_ra e 12 B11 c11 → ab_ra e 12 B12 c12 → ab_ra e 12 B13 c13 → post r (op, pi, cl, gr, wr, c1, c2, c3, c4, c5, c6, c7, c8, c9, c10, c11, c12, c13)) : ∀ (n : Nat) ⦃X_x1 X_x2 X_x3 X_f0_piled X_f0_clock X_f0_groups X_f0_wrong X_a1 M_a1 F_a1 S_a1 N_a1 X_a6 X_a7 X_a8 X_a9 X_a10 X_a11 X_a12 X_a13 : Nat⦄ ⦃x1 x2 x3 f0_op f0_piled f0_clock f0_groups f0_wrong : Int32⦄ ⦃a1 a2 a3 a4 a5 a6 a7 a8 a9 a10 a11 a12 a13 : Nat → Int32⦄, bz_faults_11 k  n X_x1 X_x2 X_x3 X_f0_piled X_f0_clock X_f0_groups X_f0_wrong X_a1 M_a1 F_a1 S_a1 N_a1 X_a6 X_a7 X_a8 X_a9 X_a10 X_a11 X_a12 X_a13 = true → ab_rv e X_x1 x1 → ab_rv e X_x2 x2 → ab_rv e X_x3 x3 → ab_rv e X_f0_piled f0_piled → ab_rv e X_f0_clock f0_clock → ab_rv e X_f0_groups f0_groups → ab_rv e X_f0_wrong f0_wrong → ab_rg e X_a1 M_a1 F_a1 S_a1 N_a1 f0_op a1 a2 a3 a4 a5 → ab_ra e 12 X_a6 a6 → ab_ra e 12 X_a7 a7 → ab_ra e 12 X_a8 a8 → ab_ra e 12 X_a9 a9 → ab_ra e 12 X_a10 a10 → ab_ra e 12 X_a11 a11 → ab_ra e 12 X_a12 a12 → ab_ra e 12 X_a13 a13 → wX_faults_11 post n x1 x2 x3 f0_op f0_piled f0_clock f0_groups f0_wrong a1 a2 a3 a4 a5 a6 a7 a8 a9 a10 a11 a12 a13 := by
  intro n
  induction n with
  | zero =>
    intro X_x1 X_x2 X_x3 X_f0_piled X_f0_clock X_f0_groups X_f0_wrong X_a1 M_a1 F_a1 S_a1 N_a1 X_a6 X_a7 X_a8 X_a9 X_a10 X_a11 X_a12 X_a13 x1 x2 x3 f0_op f0_piled f0_clock f0_groups f0_wrong a1 a2 a3 a4 a5 a6 a7 a8 a9 a10 a11 a12 a13 hb h_x1 h_x2 h_x3 h_f0_piled h_f0_clock h_f0_groups h_f0_wrong g_a1 h_a6 h_a7 h_a8 h_a9 h_a10 h_a11 h_a12 h_a13
    exact absurd (show false = true from hb) (by decide)
  | succ n ih =>
    intro X_x1 X_x2 X_x3 X_f0_piled X_f0_clock X_f0_groups X_f0_wrong X_a1 M_a1 F_a1 S_a1 N_a1 X_a6 X_a7 X_a8 X_a9 X_a10 X_a11 X_a12 X_a13 x1 x2 x3 f0_op f0_piled f0_clock f0_groups f0_wrong a1 a2 a3 a4 a5 a6 a7 a8 a9 a10 a11 a12 a13 hb h_x1 h_x2 h_x3 h_f0_piled h_f0_clock h_f0_groups h_f0_wrong g_a1 h_a6 h_a7 h_a8 h_a9 h_a10 h_a11 h_a12 h_a13
    refine ab_leS hb ab_l12 h_x3 (fun hb => ?_) (fun hb => ?_)
    · refine ab_eqS hb h_x1 (ab_rdk 2 g_a1.1 (by decide)) (fun hb => ?_) (fun hb => ?_)
      · refine ab_eqS hb h_x2 (ab_rdk 3 g_a1.1 (by decide)) (fun hb => ?_) (fun hb => ?_)
        · exact sz_faults_110 hb hk h_x1 h_x2 ab_l1 h_f0_piled h_f0_clock h_f0_groups h_f0_wrong g_a1 h_a6 h_a7 h_a8 h_a9 h_a10 h_a11 h_a12 h_a13
        · exact sz_faults_109 hb hk h_x1 h_x2 h_f0_piled h_f0_clock h_f0_groups h_f0_wrong g_a1 h_a6 h_a7 h_a8 h_a9 h_a10 h_a11 h_a12 h_a13
      · exact sz_faults_109 hb hk h_x1 h_x2 h_f0_piled h_f0_clock h_f0_groups h_f0_wrong g_a1 h_a6 h_a7 h_a8 h_a9 h_a10 h_a11 h_a12 h_a13
    · refine sz_isNode hb ?_ g_a1 h_f0_piled h_f0_clock h_f0_groups h_f0_wrong h_a6 h_a7 h_a8 h_a9 h_a10 h_a11 h_a12 h_a13 h_x3
      intro X_r_231 r_231 hb h_r_231
      refine ab_eqS hb h_r_231 ab_l0 (fun hb => ?_) (fun hb => ?_)
      · refine ab_letS hb (ab_addS h_x3 ab_l1) ?_
        intro X_x3_233 x3_233 hb h_x3_233
        exact ih hb h_x1 h_x2 h_x3_233 h_f0_piled h_f0_clock h_f0_groups h_f0_wrong g_a1 h_a6 h_a7 h_a8 h_a9 h_a10 h_a11 h_a12 h_a13
      · refine ab_letS hb (ab_addS h_x1 ab_l1) ?_
        intro X_x1_234 x1_234 hb h_x1_234
        refine sz_checkChain hb ?_ g_a1 h_f0_piled h_f0_clock h_f0_groups h_f0_wrong h_a6 h_a7 h_a8 h_a9 h_a10 h_a11 h_a12 h_a13 h_x3 ab_l0
        intro X_r_235 X_am311_243 M_am311_243 F_am311_243 S_am311_243 N_am311_243 X_f0_piled_237 X_f0_clock_238 X_f0_groups_239 X_f0_wrong_240 X_am316_258 X_am317_261 X_am318_264 X_am319_267 X_am3110_270 X_am3111_273 X_am3112_276 X_am3113_279 r_235 f0_op_236 f0_piled_237 f0_clock_238 f0_groups_239 f0_wrong_240 am311_243 am312_246 am313_249 am314_252 am315_255 am316_258 am317_261 am318_264 am319_267 am3110_270 am3111_273 am3112_276 am3113_279 hb h_r_235 g_am311_243 h_f0_piled_237 h_f0_clock_238 h_f0_groups_239 h_f0_wrong_240 h_am316_258 h_am317_261 h_am318_264 h_am319_267 h_am3110_270 h_am3111_273 h_am3112_276 h_am3113_279
        refine ab_letS hb (ab_addS h_x2 h_r_235) ?_
        intro X_x2_280 x2_280 hb h_x2_280
        refine sz_checkChain hb ?_ g_am311_243 h_f0_piled_237 h_f0_clock_238 h_f0_groups_239 h_f0_wrong_240 h_am316_258 h_am317_261 h_am318_264 h_am319_267 h_am3110_270 h_am3111_273 h_am3112_276 h_am3113_279 h_x3 ab_l1
        intro X_r_281 X_am441_289 M_am441_289 F_am441_289 S_am441_289 N_am441_289 X_f0_piled_283 X_f0_clock_284 X_f0_groups_285 X_f0_wrong_286 X_am446_304 X_am447_307 X_am448_310 X_am449_313 X_am4410_316 X_am4411_319 X_am4412_322 X_am4413_325 r_281 f0_op_282 f0_piled_283 f0_clock_284 f0_groups_285 f0_wrong_286 am441_289 am442_292 am443_295 am444_298 am445_301 am446_304 am447_307 am448_310 am449_313 am4410_316 am4411_319 am4412_322 am4413_325 hb h_r_281 g_am441_289 h_f0_piled_283 h_f0_clock_284 h_f0_groups_285 h_f0_wrong_286 h_am446_304 h_am447_307 h_am448_310 h_am449_313 h_am4410_316 h_am4411_319 h_am4412_322 h_am4413_325
        refine sz_nodeAt hb ?_ h_x3
        intro X_r_326 r_326 hb h_r_326
        refine ab_vinS hb (by decide) (ab_addS h_r_326 ab_l6) (fun hb => ?_)
        refine ab_eqS hb (ab_rdcS g_am441_289.1 (ab_addS h_r_326 ab_l6)) (ab_addS h_r_235 h_r_281) (fun hb => ?_) (fun hb => ?_)
        · exact sz_faults_75 hb hk ih h_x1_234 h_x2_280 h_x3 ab_l1 h_f0_piled_283 h_f0_clock_284 h_f0_groups_285 h_f0_wrong_286 g_am441_289 h_am446_304 h_am447_307 h_am448_310 h_am449_313 h_am4410_316 h_am4411_319 h_am4412_322 h_am4413_325
        · exact sz_faults_75 hb hk ih h_x1_234 h_x2_280 h_x3 ab_l0 h_f0_piled_283 h_f0_clock_284 h_f0_groups_285 h_f0_wrong_286 g_am441_289 h_am446_304 h_am447_307 h_am448_310 h_am449_313 h_am4410_316 h_am4411_319 h_am4412_322 h_am4413_325
noncomputable def bz_faults (k : Nat → Nat → Nat → Nat → Nat → Nat → Nat → Nat → Nat → Nat → Nat → Nat → Nat → Nat → Nat → Nat → Nat → Nat → Bool) (X_a1 M_a1 F_a1 S_a1 N_a1 X_f0_piled X_f0_clock X_f0_groups X_f0_wrong X_a6 X_a7 X_a8 X_a9 X_a10 X_a11 X_a12 X_a13 : Nat) : Bool :=
  (bz_faults_11 k  200 16 16 16 X_f0_piled X_f0_clock X_f0_groups 16 X_a1 M_a1 F_a1 S_a1 N_a1 X_a6 X_a7 X_a8 X_a9 X_a10 X_a11 X_a12 X_a13)
theorem sz_faults {e : Nat → Int32} {post : Int32 → St2 → Prop} {k : Nat → Nat → Nat → Nat → Nat → Nat → Nat → Nat → Nat → Nat → Nat → Nat → Nat → Nat → Nat → Nat → Nat → Nat → Bool} {X_a1 M_a1 F_a1 S_a1 N_a1 X_f0_piled X_f0_clock X_f0_groups X_f0_wrong X_a6 X_a7 X_a8 X_a9 X_a10 X_a11 X_a12 X_a13 : Nat} {f0_op f0_piled f0_clock f0_groups f0_wrong : Int32} {a1 a2 a3 a4 a5 a6 a7 a8 a9 a10 a11 a12 a13 : Nat → Int32} (hb : bz_faults k X_a1 M_a1 F_a1 S_a1 N_a1 X_f0_piled X_f0_clock X_f0_groups X_f0_wrong X_a6 X_a7 X_a8 X_a9 X_a10 X_a11 X_a12 X_a13 = true) (hk : ∀ ⦃R A M F S N P C G W B6 B7 B8 B9 B10 B11 B12 B13 : Nat⦄ ⦃r op pi cl gr wr : Int32⦄ ⦃c1 c2 c3 c4 c5 c6 c7 c8 c9 c10 c11 c12 c13 : Nat → Int32⦄, k R A M F S N P C G W B6 B7 B8 B9 B10 B11 B12 B13 = true → ab_rv e R r → ab_rg e A M F S N op c1 c2 c3 c4 c5 → ab_rv e P pi → ab_rv e C cl → ab_rv e G gr → ab_rv e W wr → ab_ra e 12 B6 c6 → ab_ra e 12 B7 c7 → ab_ra e 12 B8 c8 → ab_ra e 12 B9 c9 → ab_ra e 12 B10 c10 → ab_ra e 12 B11 c11 → ab_ra e 12 B12 c12 → ab_ra e 12 B13 c13 → post r (op, pi, cl, gr, wr, c1, c2, c3, c4, c5, c6, c7, c8, c9, c10, c11, c12, c13)) (g_a1 : ab_rg e X_a1 M_a1 F_a1 S_a1 N_a1 f0_op a1 a2 a3 a4 a5) (h_f0_piled : ab_rv e X_f0_piled f0_piled) (h_f0_clock : ab_rv e X_f0_clock f0_clock) (h_f0_groups : ab_rv e X_f0_groups f0_groups) (h_f0_wrong : ab_rv e X_f0_wrong f0_wrong) (h_a6 : ab_ra e 12 X_a6 a6) (h_a7 : ab_ra e 12 X_a7 a7) (h_a8 : ab_ra e 12 X_a8 a8) (h_a9 : ab_ra e 12 X_a9 a9) (h_a10 : ab_ra e 12 X_a10 a10) (h_a11 : ab_ra e 12 X_a11 a11) (h_a12 : ab_ra e 12 X_a12 a12) (h_a13 : ab_ra e 12 X_a13 a13) : wpX_faults post (f0_op, f0_piled, f0_clock, f0_groups, f0_wrong, a1, a2, a3, a4, a5, a6, a7, a8, a9, a10, a11, a12, a13) := by
  exact ⟨200, sz_faults_11 hk 200 hb ab_l0 ab_l0 ab_l0 h_f0_piled h_f0_clock h_f0_groups ab_l0 g_a1 h_a6 h_a7 h_a8 h_a9 h_a10 h_a11 h_a12 h_a13⟩
noncomputable def bz_digest_62 (k : Nat → Bool) (X_f0_piled X_f0_clock X_f0_groups X_f0_wrong X_a1 M_a1 F_a1 S_a1 N_a1 X_a6 X_a7 X_a8 X_a9 X_a10 X_a11 X_a12 X_a13 : Nat) (n : Nat) : Nat → Nat → Bool :=
  Nat.rec (motive := fun _ => Nat → Nat → Bool) (fun _ _ => false) (fun _ ih => fun X_x1 X_x2 => (ab_le 40 X_x2 (k X_x1) (bz_arrowCell (fun X_r_3 => (bz_isArrow (fun X_r_4 => (ab_eq X_r_4 16 (ab_str (ab_add X_x1 16) (fun X_x1_6 => (ab_str (ab_add X_x2 17) (fun X_x2_7 => (ih X_x1_6 X_x2_7))))) (ab_vin 340 (ab_add X_r_3 17) (ab_vin 340 (ab_add (ab_add X_r_3 17) 17) (ab_vin 340 (ab_add X_r_3 19) (ab_vin 340 (ab_add X_r_3 20) (ab_str (ab_add X_x1 (ab_mul (ab_add X_x2 29) (ab_add (ab_add (ab_add (ab_rdc X_a1 (ab_add X_r_3 17)) (ab_mul 21 (ab_rdc X_a1 (ab_add (ab_add X_r_3 17) 17)))) (ab_mul 23 (ab_rdc X_a1 (ab_add X_r_3 19)))) (ab_mul 27 (ab_rdc X_a1 (ab_add X_r_3 20)))))) (fun X_x1_12 => (ab_str (ab_add X_x2 17) (fun X_x2_13 => (ih X_x1_12 X_x2_13))))))))))) X_a1 M_a1 F_a1 S_a1 N_a1 X_f0_piled X_f0_clock X_f0_groups X_f0_wrong X_a6 X_a7 X_a8 X_a9 X_a10 X_a11 X_a12 X_a13 X_x2)) X_x2))) n
theorem sz_digest_62 {e : Nat → Int32} {post : Int32 → Prop} {k : Nat → Bool} {X_f0_piled X_f0_clock X_f0_groups X_f0_wrong X_a1 M_a1 F_a1 S_a1 N_a1 X_a6 X_a7 X_a8 X_a9 X_a10 X_a11 X_a12 X_a13 : Nat} {f0_op f0_piled f0_clock f0_groups f0_wrong : Int32} {a1 a2 a3 a4 a5 a6 a7 a8 a9 a10 a11 a12 a13 : Nat → Int32} (hk : ∀ ⦃R : Nat⦄ ⦃r : Int32⦄, k R = true → ab_rv e R r → post r) (h_f0_piled : ab_rv e X_f0_piled f0_piled) (h_f0_clock : ab_rv e X_f0_clock f0_clock) (h_f0_groups : ab_rv e X_f0_groups f0_groups) (h_f0_wrong : ab_rv e X_f0_wrong f0_wrong) (g_a1 : ab_rg e X_a1 M_a1 F_a1 S_a1 N_a1 f0_op a1 a2 a3 a4 a5) (h_a6 : ab_ra e 12 X_a6 a6) (h_a7 : ab_ra e 12 X_a7 a7) (h_a8 : ab_ra e 12 X_a8 a8) (h_a9 : ab_ra e 12 X_a9 a9) (h_a10 : ab_ra e 12 X_a10 a10) (h_a11 : ab_ra e 12 X_a11 a11) (h_a12 : ab_ra e 12 X_a12 a12) (h_a13 : ab_ra e 12 X_a13 a13) : ∀ (n : Nat) ⦃X_x1 X_x2 : Nat⦄ ⦃x1 x2 : Int32⦄, bz_digest_62 k X_f0_piled X_f0_clock X_f0_groups X_f0_wrong X_a1 M_a1 F_a1 S_a1 N_a1 X_a6 X_a7 X_a8 X_a9 X_a10 X_a11 X_a12 X_a13 n X_x1 X_x2 = true → ab_rv e X_x1 x1 → ab_rv e X_x2 x2 → wX_digest_62 post f0_op f0_piled f0_clock f0_groups f0_wrong a1 a2 a3 a4 a5 a6 a7 a8 a9 a10 a11 a12 a13 n x1 x2 := by
  intro n
  induction n with
  | zero =>
    intro X_x1 X_x2 x1 x2 hb h_x1 h_x2
    exact absurd (show false = true from hb) (by decide)
  | succ n ih =>
    intro X_x1 X_x2 x1 x2 hb h_x1 h_x2
    refine ab_leS hb ab_l24 h_x2 (fun hb => ?_) (fun hb => ?_)
    · exact hk hb h_x1
    · refine sz_arrowCell hb ?_ h_x2
      intro X_r_3 r_3 hb h_r_3
      refine sz_isArrow hb ?_ g_a1 h_f0_piled h_f0_clock h_f0_groups h_f0_wrong h_a6 h_a7 h_a8 h_a9 h_a10 h_a11 h_a12 h_a13 h_x2
      intro X_r_4 r_4 hb h_r_4
      refine ab_eqS hb h_r_4 ab_l0 (fun hb => ?_) (fun hb => ?_)
      · refine ab_letS hb (ab_addS h_x1 ab_l0) ?_
        intro X_x1_6 x1_6 hb h_x1_6
        refine ab_letS hb (ab_addS h_x2 ab_l1) ?_
        intro X_x2_7 x2_7 hb h_x2_7
        exact ih hb h_x1_6 h_x2_7
      · refine ab_vinS hb (by decide) (ab_addS h_r_3 ab_l1) (fun hb => ?_)
        refine ab_vinS hb (by decide) (ab_addS (ab_addS h_r_3 ab_l1) ab_l1) (fun hb => ?_)
        refine ab_vinS hb (by decide) (ab_addS h_r_3 ab_l3) (fun hb => ?_)
        refine ab_vinS hb (by decide) (ab_addS h_r_3 ab_l4) (fun hb => ?_)
        refine ab_letS hb (ab_addS h_x1 (ab_mulS (ab_addS h_x2 ab_l13) (ab_addS (ab_addS (ab_addS (ab_rdcS g_a1.1 (ab_addS h_r_3 ab_l1)) (ab_mulS ab_l5 (ab_rdcS g_a1.1 (ab_addS (ab_addS h_r_3 ab_l1) ab_l1)))) (ab_mulS ab_l7 (ab_rdcS g_a1.1 (ab_addS h_r_3 ab_l3)))) (ab_mulS ab_l11 (ab_rdcS g_a1.1 (ab_addS h_r_3 ab_l4)))))) ?_
        intro X_x1_12 x1_12 hb h_x1_12
        refine ab_letS hb (ab_addS h_x2 ab_l1) ?_
        intro X_x2_13 x2_13 hb h_x2_13
        exact ih hb h_x1_12 h_x2_13
noncomputable def bz_digest_4 (k : Nat → Bool) (X_f0_piled X_f0_clock X_f0_groups X_f0_wrong X_a1 M_a1 F_a1 S_a1 N_a1 X_a6 X_a7 X_a8 X_a9 X_a10 X_a11 X_a12 X_a13 : Nat) (n : Nat) : Nat → Nat → Bool :=
  Nat.rec (motive := fun _ => Nat → Nat → Bool) (fun _ _ => false) (fun _ ih => fun X_x1 X_x2 => (ab_le 28 X_x2 (bz_digest_62 k X_f0_piled X_f0_clock X_f0_groups X_f0_wrong X_a1 M_a1 F_a1 S_a1 N_a1 X_a6 X_a7 X_a8 X_a9 X_a10 X_a11 X_a12 X_a13 200 X_x1 16) (bz_isNode (fun X_r_14 => (ab_eq X_r_14 16 (ab_str (ab_add X_x1 16) (fun X_x1_16 => (ab_str (ab_add X_x2 17) (fun X_x2_17 => (ih X_x1_16 X_x2_17))))) (bz_nodeAt (fun X_r_18 => (ab_vin 340 (ab_add X_r_18 17) (bz_nodeAt (fun X_r_20 => (ab_vin 340 (ab_add X_r_20 18) (ab_str (ab_add X_x1 (ab_mul (ab_add X_x2 17) (ab_add (ab_rdc X_a1 (ab_add X_r_18 17)) (ab_mul 19 (ab_rdc X_a1 (ab_add X_r_20 18)))))) (fun X_x1_22 => (ab_str (ab_add X_x2 17) (fun X_x2_23 => (ih X_x1_22 X_x2_23))))))) X_x2))) X_x2))) X_a1 M_a1 F_a1 S_a1 N_a1 X_f0_piled X_f0_clock X_f0_groups X_f0_wrong X_a6 X_a7 X_a8 X_a9 X_a10 X_a11 X_a12 X_a13 X_x2))) n
theorem sz_digest_4 {e : Nat → Int32} {post : Int32 → Prop} {k : Nat → Bool} {X_f0_piled X_f0_clock X_f0_groups X_f0_wrong X_a1 M_a1 F_a1 S_a1 N_a1 X_a6 X_a7 X_a8 X_a9 X_a10 X_a11 X_a12 X_a13 : Nat} {f0_op f0_piled f0_clock f0_groups f0_wrong : Int32} {a1 a2 a3 a4 a5 a6 a7 a8 a9 a10 a11 a12 a13 : Nat → Int32} (hk : ∀ ⦃R : Nat⦄ ⦃r : Int32⦄, k R = true → ab_rv e R r → post r) (h_f0_piled : ab_rv e X_f0_piled f0_piled) (h_f0_clock : ab_rv e X_f0_clock f0_clock) (h_f0_groups : ab_rv e X_f0_groups f0_groups) (h_f0_wrong : ab_rv e X_f0_wrong f0_wrong) (g_a1 : ab_rg e X_a1 M_a1 F_a1 S_a1 N_a1 f0_op a1 a2 a3 a4 a5) (h_a6 : ab_ra e 12 X_a6 a6) (h_a7 : ab_ra e 12 X_a7 a7) (h_a8 : ab_ra e 12 X_a8 a8) (h_a9 : ab_ra e 12 X_a9 a9) (h_a10 : ab_ra e 12 X_a10 a10) (h_a11 : ab_ra e 12 X_a11 a11) (h_a12 : ab_ra e 12 X_a12 a12) (h_a13 : ab_ra e 12 X_a13 a13) : ∀ (n : Nat) ⦃X_x1 X_x2 : Nat⦄ ⦃x1 x2 : Int32⦄, bz_digest_4 k X_f0_piled X_f0_clock X_f0_groups X_f0_wrong X_a1 M_a1 F_a1 S_a1 N_a1 X_a6 X_a7 X_a8 X_a9 X_a10 X_a11 X_a12 X_a13 n X_x1 X_x2 = true → ab_rv e X_x1 x1 → ab_rv e X_x2 x2 → wX_digest_4 post f0_op f0_piled f0_clock f0_groups f0_wrong a1 a2 a3 a4 a5 a6 a7 a8 a9 a10 a11 a12 a13 n x1 x2 := by
  intro n
  induction n with
  | zero =>
    intro X_x1 X_x2 x1 x2 hb h_x1 h_x2
    exact absurd (show false = true from hb) (by decide)
  | succ n ih =>
    intro X_x1 X_x2 x1 x2 hb h_x1 h_x2
    refine ab_leS hb ab_l12 h_x2 (fun hb => ?_) (fun hb => ?_)
    · exact ⟨200, sz_digest_62 hk h_f0_piled h_f0_clock h_f0_groups h_f0_wrong g_a1 h_a6 h_a7 h_a8 h_a9 h_a10 h_a11 h_a12 h_a13 200 hb h_x1 ab_l0⟩
    · refine sz_isNode hb ?_ g_a1 h_f0_piled h_f0_clock h_f0_groups h_f0_wrong h_a6 h_a7 h_a8 h_a9 h_a10 h_a11 h_a12 h_a13 h_x2
      intro X_r_14 r_14 hb h_r_14
      refine ab_eqS hb h_r_14 ab_l0 (fun hb => ?_) (fun hb => ?_)
      · refine ab_letS hb (ab_addS h_x1 ab_l0) ?_
        intro X_x1_16 x1_16 hb h_x1_16
        refine ab_letS hb (ab_addS h_x2 ab_l1) ?_
        intro X_x2_17 x2_17 hb h_x2_17
        exact ih hb h_x1_16 h_x2_17
      · refine sz_nodeAt hb ?_ h_x2
        intro X_r_18 r_18 hb h_r_18
        refine ab_vinS hb (by decide) (ab_addS h_r_18 ab_l1) (fun hb => ?_)
        refine sz_nodeAt hb ?_ h_x2
        intro X_r_20 r_20 hb h_r_20
        refine ab_vinS hb (by decide) (ab_addS h_r_20 ab_l2) (fun hb => ?_)
        refine ab_letS hb (ab_addS h_x1 (ab_mulS (ab_addS h_x2 ab_l1) (ab_addS (ab_rdcS g_a1.1 (ab_addS h_r_18 ab_l1)) (ab_mulS ab_l3 (ab_rdcS g_a1.1 (ab_addS h_r_20 ab_l2)))))) ?_
        intro X_x1_22 x1_22 hb h_x1_22
        refine ab_letS hb (ab_addS h_x2 ab_l1) ?_
        intro X_x2_23 x2_23 hb h_x2_23
        exact ih hb h_x1_22 h_x2_23
noncomputable def bz_digest (k : Nat → Bool) (X_a1 M_a1 F_a1 S_a1 N_a1 X_f0_piled X_f0_clock X_f0_groups X_f0_wrong X_a6 X_a7 X_a8 X_a9 X_a10 X_a11 X_a12 X_a13 : Nat) : Bool :=
  (bz_digest_4 k X_f0_piled X_f0_clock X_f0_groups X_f0_wrong X_a1 M_a1 F_a1 S_a1 N_a1 X_a6 X_a7 X_a8 X_a9 X_a10 X_a11 X_a12 X_a13 200 16 16)
theorem sz_digest {e : Nat → Int32} {post : Int32 → Prop} {k : Nat → Bool} {X_a1 M_a1 F_a1 S_a1 N_a1 X_f0_piled X_f0_clock X_f0_groups X_f0_wrong X_a6 X_a7 X_a8 X_a9 X_a10 X_a11 X_a12 X_a13 : Nat} {f0_op f0_piled f0_clock f0_groups f0_wrong : Int32} {a1 a2 a3 a4 a5 a6 a7 a8 a9 a10 a11 a12 a13 : Nat → Int32} (hb : bz_digest k X_a1 M_a1 F_a1 S_a1 N_a1 X_f0_piled X_f0_clock X_f0_groups X_f0_wrong X_a6 X_a7 X_a8 X_a9 X_a10 X_a11 X_a12 X_a13 = true) (hk : ∀ ⦃R : Nat⦄ ⦃r : Int32⦄, k R = true → ab_rv e R r → post r) (g_a1 : ab_rg e X_a1 M_a1 F_a1 S_a1 N_a1 f0_op a1 a2 a3 a4 a5) (h_f0_piled : ab_rv e X_f0_piled f0_piled) (h_f0_clock : ab_rv e X_f0_clock f0_clock) (h_f0_groups : ab_rv e X_f0_groups f0_groups) (h_f0_wrong : ab_rv e X_f0_wrong f0_wrong) (h_a6 : ab_ra e 12 X_a6 a6) (h_a7 : ab_ra e 12 X_a7 a7) (h_a8 : ab_ra e 12 X_a8 a8) (h_a9 : ab_ra e 12 X_a9 a9) (h_a10 : ab_ra e 12 X_a10 a10) (h_a11 : ab_ra e 12 X_a11 a11) (h_a12 : ab_ra e 12 X_a12 a12) (h_a13 : ab_ra e 12 X_a13 a13) : wpX_digest post (f0_op, f0_piled, f0_clock, f0_groups, f0_wrong, a1, a2, a3, a4, a5, a6, a7, a8, a9, a10, a11, a12, a13) := by
  exact ⟨200, sz_digest_4 hk h_f0_piled h_f0_clock h_f0_groups h_f0_wrong g_a1 h_a6 h_a7 h_a8 h_a9 h_a10 h_a11 h_a12 h_a13 200 hb ab_l0 ab_l0⟩
end
section
noncomputable def bz_chain_75 (k : Nat → Nat → Nat → Nat → Nat → Nat → Nat → Nat → Nat → Nat → Nat → Nat → Nat → Nat → Nat → Nat → Nat → Bool) (X_x1 X_x4 X_f0_piled X_f0_clock X_f0_groups X_f0_wrong X_am521 M_am521 F_am521 S_am521 N_am521 X_am526 X_am527 X_am528 X_am529 X_am5210 X_am5211 X_am5212 X_am5213 : Nat) : Bool :=
  (bz_put (fun X_am791_106 M_am791_106 F_am791_106 S_am791_106 N_am791_106 X_f0_piled_100 X_f0_clock_101 X_f0_groups_102 X_f0_wrong_103 X_am796_121 X_am797_124 X_am798_127 X_am799_130 X_am7910_133 X_am7911_136 X_am7912_139 X_am7913_142 => (k X_am791_106 M_am791_106 F_am791_106 S_am791_106 N_am791_106 X_f0_piled_100 X_f0_clock_101 X_f0_groups_102 X_f0_wrong_103 X_am796_121 X_am797_124 X_am798_127 X_am799_130 X_am7910_133 X_am7911_136 X_am7912_139 X_am7913_142)) X_am521 M_am521 F_am521 S_am521 N_am521 X_f0_piled X_f0_clock X_f0_groups X_f0_wrong X_am526 X_am527 X_am528 X_am529 X_am5210 X_am5211 X_am5212 X_am5213 X_x4 X_x1)
theorem sz_chain_75 {e : Nat → Int32} {post : St2 → Prop} {k : Nat → Nat → Nat → Nat → Nat → Nat → Nat → Nat → Nat → Nat → Nat → Nat → Nat → Nat → Nat → Nat → Nat → Bool} {X_x1 X_x4 X_f0_piled X_f0_clock X_f0_groups X_f0_wrong X_am521 M_am521 F_am521 S_am521 N_am521 X_am526 X_am527 X_am528 X_am529 X_am5210 X_am5211 X_am5212 X_am5213 : Nat} {x1 x4 f0_op f0_piled f0_clock f0_groups f0_wrong : Int32} {am521 am522 am523 am524 am525 am526 am527 am528 am529 am5210 am5211 am5212 am5213 : Nat → Int32} (hb : bz_chain_75 k X_x1 X_x4 X_f0_piled X_f0_clock X_f0_groups X_f0_wrong X_am521 M_am521 F_am521 S_am521 N_am521 X_am526 X_am527 X_am528 X_am529 X_am5210 X_am5211 X_am5212 X_am5213 = true) (hk : ∀ ⦃A M F S N P C G W B6 B7 B8 B9 B10 B11 B12 B13 : Nat⦄ ⦃op pi cl gr wr : Int32⦄ ⦃c1 c2 c3 c4 c5 c6 c7 c8 c9 c10 c11 c12 c13 : Nat → Int32⦄, k A M F S N P C G W B6 B7 B8 B9 B10 B11 B12 B13 = true → ab_rg e A M F S N op c1 c2 c3 c4 c5 → ab_rv e P pi → ab_rv e C cl → ab_rv e G gr → ab_rv e W wr → ab_ra e 12 B6 c6 → ab_ra e 12 B7 c7 → ab_ra e 12 B8 c8 → ab_ra e 12 B9 c9 → ab_ra e 12 B10 c10 → ab_ra e 12 B11 c11 → ab_ra e 12 B12 c12 → ab_ra e 12 B13 c13 → post (op, pi, cl, gr, wr, c1, c2, c3, c4, c5, c6, c7, c8, c9, c10, c11, c12, c13)) (h_x1 : ab_rv e X_x1 x1) (h_x4 : ab_rv e X_x4 x4) (h_f0_piled : ab_rv e X_f0_piled f0_piled) (h_f0_clock : ab_rv e X_f0_clock f0_clock) (h_f0_groups : ab_rv e X_f0_groups f0_groups) (h_f0_wrong : ab_rv e X_f0_wrong f0_wrong) (g_am521 : ab_rg e X_am521 M_am521 F_am521 S_am521 N_am521 f0_op am521 am522 am523 am524 am525) (h_am526 : ab_ra e 12 X_am526 am526) (h_am527 : ab_ra e 12 X_am527 am527) (h_am528 : ab_ra e 12 X_am528 am528) (h_am529 : ab_ra e 12 X_am529 am529) (h_am5210 : ab_ra e 12 X_am5210 am5210) (h_am5211 : ab_ra e 12 X_am5211 am5211) (h_am5212 : ab_ra e 12 X_am5212 am5212) (h_am5213 : ab_ra e 12 X_am5213 am5213) : wX_chain_75 post x1 x4 f0_op f0_piled f0_clock f0_groups f0_wrong am521 am522 am523 am524 am525 am526 am527 am528 am529 am5210 am5211 am5212 am5213 := by
  unfold wX_chain_75
  refine sz_put hb ?_ g_am521 h_f0_piled h_f0_clock h_f0_groups h_f0_wrong h_am526 h_am527 h_am528 h_am529 h_am5210 h_am5211 h_am5212 h_am5213 h_x4 h_x1
  intro X_am791_106 M_am791_106 F_am791_106 S_am791_106 N_am791_106 X_f0_piled_100 X_f0_clock_101 X_f0_groups_102 X_f0_wrong_103 X_am796_121 X_am797_124 X_am798_127 X_am799_130 X_am7910_133 X_am7911_136 X_am7912_139 X_am7913_142 f0_op_99 f0_piled_100 f0_clock_101 f0_groups_102 f0_wrong_103 am791_106 am792_109 am793_112 am794_115 am795_118 am796_121 am797_124 am798_127 am799_130 am7910_133 am7911_136 am7912_139 am7913_142 hb g_am791_106 h_f0_piled_100 h_f0_clock_101 h_f0_groups_102 h_f0_wrong_103 h_am796_121 h_am797_124 h_am798_127 h_am799_130 h_am7910_133 h_am7911_136 h_am7912_139 h_am7913_142
  exact hk hb g_am791_106 h_f0_piled_100 h_f0_clock_101 h_f0_groups_102 h_f0_wrong_103 h_am796_121 h_am797_124 h_am798_127 h_am799_130 h_am7910_133 h_am7911_136 h_am7912_139 h_am7913_142
noncomputable def bz_chain (k : Nat → Nat → Nat → Nat → Nat → Nat → Nat → Nat → Nat → Nat → Nat → Nat → Nat → Nat → Nat → Nat → Nat → Bool) (X_a1 M_a1 F_a1 S_a1 N_a1 X_f0_piled X_f0_clock X_f0_groups X_f0_wrong X_a6 X_a7 X_a8 X_a9 X_a10 X_a11 X_a12 X_a13 X_p0 X_p1 : Nat) : Bool :=
  (bz_arrowCell (fun X_r_1 => (ab_vin 340 (ab_add (ab_add X_r_1 17) X_p1) (bz_nodeAt (fun X_r_3 => (ab_str (ab_add (ab_add X_r_3 19) X_p1) (fun X_x4_4 => (ab_vin 340 X_x4_4 (ab_str (ab_rdc X_a1 X_x4_4) (fun X_x5_6 => (bz_put (fun X_am411_15 M_am411_15 F_am411_15 S_am411_15 N_am411_15 X_f0_piled_9 X_f0_clock_10 X_f0_groups_11 X_f0_wrong_12 X_am416_30 X_am417_33 X_am418_36 X_am419_39 X_am4110_42 X_am4111_45 X_am4112_48 X_am4113_51 => (bz_put (fun X_am521_60 M_am521_60 F_am521_60 S_am521_60 N_am521_60 X_f0_piled_54 X_f0_clock_55 X_f0_groups_56 X_f0_wrong_57 X_am526_75 X_am527_78 X_am528_81 X_am529_84 X_am5210_87 X_am5211_90 X_am5212_93 X_am5213_96 => (ab_lt X_x5_6 16 (bz_chain_75 k X_p0 X_x4_4 X_f0_piled_54 X_f0_clock_55 X_f0_groups_56 X_f0_wrong_57 X_am521_60 M_am521_60 F_am521_60 S_am521_60 N_am521_60 X_am526_75 X_am527_78 X_am528_81 X_am529_84 X_am5210_87 X_am5211_90 X_am5212_93 X_am5213_96) (bz_arrowCell (fun X_r_143 => (bz_put (fun X_am721_152 M_am721_152 F_am721_152 S_am721_152 N_am721_152 X_f0_piled_146 X_f0_clock_147 X_f0_groups_148 X_f0_wrong_149 X_am726_167 X_am727_170 X_am728_173 X_am729_176 X_am7210_179 X_am7211_182 X_am7212_185 X_am7213_188 => (bz_chain_75 k X_p0 X_x4_4 X_f0_piled_146 X_f0_clock_147 X_f0_groups_148 X_f0_wrong_149 X_am721_152 M_am721_152 F_am721_152 S_am721_152 N_am721_152 X_am726_167 X_am727_170 X_am728_173 X_am729_176 X_am7210_179 X_am7211_182 X_am7212_185 X_am7213_188)) X_am521_60 M_am521_60 F_am521_60 S_am521_60 N_am521_60 X_f0_piled_54 X_f0_clock_55 X_f0_groups_56 X_f0_wrong_57 X_am526_75 X_am527_78 X_am528_81 X_am529_84 X_am5210_87 X_am5211_90 X_am5212_93 X_am5213_96 (ab_add (ab_add X_r_143 23) X_p1) X_p0)) X_x5_6))) X_am411_15 M_am411_15 F_am411_15 S_am411_15 N_am411_15 X_f0_piled_9 X_f0_clock_10 X_f0_groups_11 X_f0_wrong_12 X_am416_30 X_am417_33 X_am418_36 X_am419_39 X_am4110_42 X_am4111_45 X_am4112_48 X_am4113_51 (ab_add (ab_add X_r_1 23) X_p1) 15)) X_a1 M_a1 F_a1 S_a1 N_a1 X_f0_piled X_f0_clock X_f0_groups X_f0_wrong X_a6 X_a7 X_a8 X_a9 X_a10 X_a11 X_a12 X_a13 (ab_add (ab_add X_r_1 21) X_p1) X_x5_6))))))) (ab_rdc X_a1 (ab_add (ab_add X_r_1 17) X_p1))))) X_p0)
theorem sz_chain {e : Nat → Int32} {post : St2 → Prop} {k : Nat → Nat → Nat → Nat → Nat → Nat → Nat → Nat → Nat → Nat → Nat → Nat → Nat → Nat → Nat → Nat → Nat → Bool} {X_a1 M_a1 F_a1 S_a1 N_a1 X_f0_piled X_f0_clock X_f0_groups X_f0_wrong X_a6 X_a7 X_a8 X_a9 X_a10 X_a11 X_a12 X_a13 X_p0 X_p1 : Nat} {f0_op f0_piled f0_clock f0_groups f0_wrong p0 p1 : Int32} {a1 a2 a3 a4 a5 a6 a7 a8 a9 a10 a11 a12 a13 : Nat → Int32} (hb : bz_chain k X_a1 M_a1 F_a1 S_a1 N_a1 X_f0_piled X_f0_clock X_f0_groups X_f0_wrong X_a6 X_a7 X_a8 X_a9 X_a10 X_a11 X_a12 X_a13 X_p0 X_p1 = true) (hk : ∀ ⦃A M F S N P C G W B6 B7 B8 B9 B10 B11 B12 B13 : Nat⦄ ⦃op pi cl gr wr : Int32⦄ ⦃c1 c2 c3 c4 c5 c6 c7 c8 c9 c10 c11 c12 c13 : Nat → Int32⦄, k A M F S N P C G W B6 B7 B8 B9 B10 B11 B12 B13 = true → ab_rg e A M F S N op c1 c2 c3 c4 c5 → ab_rv e P pi → ab_rv e C cl → ab_rv e G gr → ab_rv e W wr → ab_ra e 12 B6 c6 → ab_ra e 12 B7 c7 → ab_ra e 12 B8 c8 → ab_ra e 12 B9 c9 → ab_ra e 12 B10 c10 → ab_ra e 12 B11 c11 → ab_ra e 12 B12 c12 → ab_ra e 12 B13 c13 → post (op, pi, cl, gr, wr, c1, c2, c3, c4, c5, c6, c7, c8, c9, c10, c11, c12, c13)) (g_a1 : ab_rg e X_a1 M_a1 F_a1 S_a1 N_a1 f0_op a1 a2 a3 a4 a5) (h_f0_piled : ab_rv e X_f0_piled f0_piled) (h_f0_clock : ab_rv e X_f0_clock f0_clock) (h_f0_groups : ab_rv e X_f0_groups f0_groups) (h_f0_wrong : ab_rv e X_f0_wrong f0_wrong) (h_a6 : ab_ra e 12 X_a6 a6) (h_a7 : ab_ra e 12 X_a7 a7) (h_a8 : ab_ra e 12 X_a8 a8) (h_a9 : ab_ra e 12 X_a9 a9) (h_a10 : ab_ra e 12 X_a10 a10) (h_a11 : ab_ra e 12 X_a11 a11) (h_a12 : ab_ra e 12 X_a12 a12) (h_a13 : ab_ra e 12 X_a13 a13) (h_p0 : ab_rv e X_p0 p0) (h_p1 : ab_rv e X_p1 p1) : wpX_chain post (f0_op, f0_piled, f0_clock, f0_groups, f0_wrong, a1, a2, a3, a4, a5, a6, a7, a8, a9, a10, a11, a12, a13) p0 p1 := by
  unfold wpX_chain
  refine sz_arrowCell hb ?_ h_p0
  intro X_r_1 r_1 hb h_r_1
  refine ab_vinS hb (by decide) (ab_addS (ab_addS h_r_1 ab_l1) h_p1) (fun hb => ?_)
  refine sz_nodeAt hb ?_ (ab_rdcS g_a1.1 (ab_addS (ab_addS h_r_1 ab_l1) h_p1))
  intro X_r_3 r_3 hb h_r_3
  refine ab_letS hb (ab_addS (ab_addS h_r_3 ab_l3) h_p1) ?_
  intro X_x4_4 x4_4 hb h_x4_4
  refine ab_vinS hb (by decide) h_x4_4 (fun hb => ?_)
  refine ab_letS hb (ab_rdcS g_a1.1 h_x4_4) ?_
  intro X_x5_6 x5_6 hb h_x5_6
  refine sz_put hb ?_ g_a1 h_f0_piled h_f0_clock h_f0_groups h_f0_wrong h_a6 h_a7 h_a8 h_a9 h_a10 h_a11 h_a12 h_a13 (ab_addS (ab_addS h_r_1 ab_l5) h_p1) h_x5_6
  intro X_am411_15 M_am411_15 F_am411_15 S_am411_15 N_am411_15 X_f0_piled_9 X_f0_clock_10 X_f0_groups_11 X_f0_wrong_12 X_am416_30 X_am417_33 X_am418_36 X_am419_39 X_am4110_42 X_am4111_45 X_am4112_48 X_am4113_51 f0_op_8 f0_piled_9 f0_clock_10 f0_groups_11 f0_wrong_12 am411_15 am412_18 am413_21 am414_24 am415_27 am416_30 am417_33 am418_36 am419_39 am4110_42 am4111_45 am4112_48 am4113_51 hb g_am411_15 h_f0_piled_9 h_f0_clock_10 h_f0_groups_11 h_f0_wrong_12 h_am416_30 h_am417_33 h_am418_36 h_am419_39 h_am4110_42 h_am4111_45 h_am4112_48 h_am4113_51
  refine sz_put hb ?_ g_am411_15 h_f0_piled_9 h_f0_clock_10 h_f0_groups_11 h_f0_wrong_12 h_am416_30 h_am417_33 h_am418_36 h_am419_39 h_am4110_42 h_am4111_45 h_am4112_48 h_am4113_51 (ab_addS (ab_addS h_r_1 ab_l7) h_p1) ab_m1
  intro X_am521_60 M_am521_60 F_am521_60 S_am521_60 N_am521_60 X_f0_piled_54 X_f0_clock_55 X_f0_groups_56 X_f0_wrong_57 X_am526_75 X_am527_78 X_am528_81 X_am529_84 X_am5210_87 X_am5211_90 X_am5212_93 X_am5213_96 f0_op_53 f0_piled_54 f0_clock_55 f0_groups_56 f0_wrong_57 am521_60 am522_63 am523_66 am524_69 am525_72 am526_75 am527_78 am528_81 am529_84 am5210_87 am5211_90 am5212_93 am5213_96 hb g_am521_60 h_f0_piled_54 h_f0_clock_55 h_f0_groups_56 h_f0_wrong_57 h_am526_75 h_am527_78 h_am528_81 h_am529_84 h_am5210_87 h_am5211_90 h_am5212_93 h_am5213_96
  refine ab_ltS hb h_x5_6 ab_l0 (fun hb => ?_) (fun hb => ?_)
  · exact sz_chain_75 hb hk h_p0 h_x4_4 h_f0_piled_54 h_f0_clock_55 h_f0_groups_56 h_f0_wrong_57 g_am521_60 h_am526_75 h_am527_78 h_am528_81 h_am529_84 h_am5210_87 h_am5211_90 h_am5212_93 h_am5213_96
  · refine sz_arrowCell hb ?_ h_x5_6
    intro X_r_143 r_143 hb h_r_143
    refine sz_put hb ?_ g_am521_60 h_f0_piled_54 h_f0_clock_55 h_f0_groups_56 h_f0_wrong_57 h_am526_75 h_am527_78 h_am528_81 h_am529_84 h_am5210_87 h_am5211_90 h_am5212_93 h_am5213_96 (ab_addS (ab_addS h_r_143 ab_l7) h_p1) h_p0
    intro X_am721_152 M_am721_152 F_am721_152 S_am721_152 N_am721_152 X_f0_piled_146 X_f0_clock_147 X_f0_groups_148 X_f0_wrong_149 X_am726_167 X_am727_170 X_am728_173 X_am729_176 X_am7210_179 X_am7211_182 X_am7212_185 X_am7213_188 f0_op_145 f0_piled_146 f0_clock_147 f0_groups_148 f0_wrong_149 am721_152 am722_155 am723_158 am724_161 am725_164 am726_167 am727_170 am728_173 am729_176 am7210_179 am7211_182 am7212_185 am7213_188 hb g_am721_152 h_f0_piled_146 h_f0_clock_147 h_f0_groups_148 h_f0_wrong_149 h_am726_167 h_am727_170 h_am728_173 h_am729_176 h_am7210_179 h_am7211_182 h_am7212_185 h_am7213_188
    exact sz_chain_75 hb hk h_p0 h_x4_4 h_f0_piled_146 h_f0_clock_147 h_f0_groups_148 h_f0_wrong_149 g_am721_152 h_am726_167 h_am727_170 h_am728_173 h_am729_176 h_am7210_179 h_am7211_182 h_am7212_185 h_am7213_188
noncomputable def bz_arrow (k : Nat → Nat → Nat → Nat → Nat → Nat → Nat → Nat → Nat → Nat → Nat → Nat → Nat → Nat → Nat → Nat → Nat → Nat → Bool) (X_a1 M_a1 F_a1 S_a1 N_a1 X_f0_piled X_f0_clock X_f0_groups X_f0_wrong X_a6 X_a7 X_a8 X_a9 X_a10 X_a11 X_a12 X_a13 X_p0 X_p1 X_p2 : Nat) : Bool :=
  (bz_areEnds (fun X_r_1 => (ab_eq X_r_1 16 (k 15 X_a1 M_a1 F_a1 S_a1 N_a1 X_f0_piled X_f0_clock X_f0_groups X_f0_wrong X_a6 X_a7 X_a8 X_a9 X_a10 X_a11 X_a12 X_a13) (ab_lt X_p1 16 (k 15 X_a1 M_a1 F_a1 S_a1 N_a1 X_f0_piled X_f0_clock X_f0_groups X_f0_wrong X_a6 X_a7 X_a8 X_a9 X_a10 X_a11 X_a12 X_a13) (ab_lt 19 X_p1 (k 15 X_a1 M_a1 F_a1 S_a1 N_a1 X_f0_piled X_f0_clock X_f0_groups X_f0_wrong X_a6 X_a7 X_a8 X_a9 X_a10 X_a11 X_a12 X_a13) (ab_lt X_p2 16 (k 15 X_a1 M_a1 F_a1 S_a1 N_a1 X_f0_piled X_f0_clock X_f0_groups X_f0_wrong X_a6 X_a7 X_a8 X_a9 X_a10 X_a11 X_a12 X_a13) (ab_le X_p2 115 (ab_str (ab_get X_a1 1) (fun X_x4_7 => (ab_le 16 X_x4_7 (bz_arrowCell (fun X_r_9 => (ab_vin 340 (ab_add X_r_9 21) (bz_put (fun X_am631_19 M_am631_19 F_am631_19 S_am631_19 N_am631_19 X_f0_piled_13 X_f0_clock_14 X_f0_groups_15 X_f0_wrong_16 X_am636_34 X_am637_37 X_am638_40 X_am639_43 X_am6310_46 X_am6311_49 X_am6312_52 X_am6313_55 => (bz_put (fun X_am721_64 M_am721_64 F_am721_64 S_am721_64 N_am721_64 X_f0_piled_58 X_f0_clock_59 X_f0_groups_60 X_f0_wrong_61 X_am726_79 X_am727_82 X_am728_85 X_am729_88 X_am7210_91 X_am7211_94 X_am7212_97 X_am7213_100 => (bz_put (fun X_am841_110 M_am841_110 F_am841_110 S_am841_110 N_am841_110 X_f0_piled_104 X_f0_clock_105 X_f0_groups_106 X_f0_wrong_107 X_am846_125 X_am847_128 X_am848_131 X_am849_134 X_am8410_137 X_am8411_140 X_am8412_143 X_am8413_146 => (bz_put (fun X_am981_156 M_am981_156 F_am981_156 S_am981_156 N_am981_156 X_f0_piled_150 X_f0_clock_151 X_f0_groups_152 X_f0_wrong_153 X_am986_171 X_am987_174 X_am988_177 X_am989_180 X_am9810_183 X_am9811_186 X_am9812_189 X_am9813_192 => (bz_put (fun X_am1071_201 M_am1071_201 F_am1071_201 S_am1071_201 N_am1071_201 X_f0_piled_195 X_f0_clock_196 X_f0_groups_197 X_f0_wrong_198 X_am1076_216 X_am1077_219 X_am1078_222 X_am1079_225 X_am10710_228 X_am10711_231 X_am10712_234 X_am10713_237 => (bz_put (fun X_am1161_246 M_am1161_246 F_am1161_246 S_am1161_246 N_am1161_246 X_f0_piled_240 X_f0_clock_241 X_f0_groups_242 X_f0_wrong_243 X_am1166_261 X_am1167_264 X_am1168_267 X_am1169_270 X_am11610_273 X_am11611_276 X_am11612_279 X_am11613_282 => (bz_chain (fun X_am1231_291 M_am1231_291 F_am1231_291 S_am1231_291 N_am1231_291 X_f0_piled_285 X_f0_clock_286 X_f0_groups_287 X_f0_wrong_288 X_am1236_306 X_am1237_309 X_am1238_312 X_am1239_315 X_am12310_318 X_am12311_321 X_am12312_324 X_am12313_327 => (bz_chain (fun X_am1301_336 M_am1301_336 F_am1301_336 S_am1301_336 N_am1301_336 X_f0_piled_330 X_f0_clock_331 X_f0_groups_332 X_f0_wrong_333 X_am1306_351 X_am1307_354 X_am1308_357 X_am1309_360 X_am13010_363 X_am13011_366 X_am13012_369 X_am13013_372 => (bz_nodeAt (fun X_r_374 => (bz_add (fun X_am1451_383 M_am1451_383 F_am1451_383 S_am1451_383 N_am1451_383 X_f0_piled_377 X_f0_clock_378 X_f0_groups_379 X_f0_wrong_380 X_am1456_398 X_am1457_401 X_am1458_404 X_am1459_407 X_am14510_410 X_am14511_413 X_am14512_416 X_am14513_419 => (bz_nodeAt (fun X_r_421 => (bz_add (fun X_am1601_430 M_am1601_430 F_am1601_430 S_am1601_430 N_am1601_430 X_f0_piled_424 X_f0_clock_425 X_f0_groups_426 X_f0_wrong_427 X_am1606_445 X_am1607_448 X_am1608_451 X_am1609_454 X_am16010_457 X_am16011_460 X_am16012_463 X_am16013_466 => (bz_add (fun X_am1661_475 M_am1661_475 F_am1661_475 S_am1661_475 N_am1661_475 X_f0_piled_469 X_f0_clock_470 X_f0_groups_471 X_f0_wrong_472 X_am1666_490 X_am1667_493 X_am1668_496 X_am1669_499 X_am16610_502 X_am16611_505 X_am16612_508 X_am16613_511 => (k X_x4_7 X_am1661_475 M_am1661_475 F_am1661_475 S_am1661_475 N_am1661_475 X_f0_piled_469 X_f0_clock_470 X_f0_groups_471 X_f0_wrong_472 X_am1666_490 X_am1667_493 X_am1668_496 X_am1669_499 X_am16610_502 X_am16611_505 X_am16612_508 X_am16613_511)) X_am1601_430 M_am1601_430 F_am1601_430 S_am1601_430 N_am1601_430 X_f0_piled_424 X_f0_clock_425 X_f0_groups_426 X_f0_wrong_427 X_am1606_445 X_am1607_448 X_am1608_451 X_am1609_454 X_am16010_457 X_am16011_460 X_am16012_463 X_am16013_466 19 17)) X_am1451_383 M_am1451_383 F_am1451_383 S_am1451_383 N_am1451_383 X_f0_piled_377 X_f0_clock_378 X_f0_groups_379 X_f0_wrong_380 X_am1456_398 X_am1457_401 X_am1458_404 X_am1459_407 X_am14510_410 X_am14511_413 X_am14512_416 X_am14513_419 (ab_add X_r_421 22) 17)) (ab_sub X_p0 (ab_mul (ab_div X_p0 28) 28)))) X_am1301_336 M_am1301_336 F_am1301_336 S_am1301_336 N_am1301_336 X_f0_piled_330 X_f0_clock_331 X_f0_groups_332 X_f0_wrong_333 X_am1306_351 X_am1307_354 X_am1308_357 X_am1309_360 X_am13010_363 X_am13011_366 X_am13012_369 X_am13013_372 (ab_add X_r_374 22) 17)) (ab_div X_p0 28))) X_am1231_291 M_am1231_291 F_am1231_291 S_am1231_291 N_am1231_291 X_f0_piled_285 X_f0_clock_286 X_f0_groups_287 X_f0_wrong_288 X_am1236_306 X_am1237_309 X_am1238_312 X_am1239_315 X_am12310_318 X_am12311_321 X_am12312_324 X_am12313_327 X_x4_7 17)) X_am1161_246 M_am1161_246 F_am1161_246 S_am1161_246 N_am1161_246 X_f0_piled_240 X_f0_clock_241 X_f0_groups_242 X_f0_wrong_243 X_am1166_261 X_am1167_264 X_am1168_267 X_am1169_270 X_am11610_273 X_am11611_276 X_am11612_279 X_am11613_282 X_x4_7 16)) X_am1071_201 M_am1071_201 F_am1071_201 S_am1071_201 N_am1071_201 X_f0_piled_195 X_f0_clock_196 X_f0_groups_197 X_f0_wrong_198 X_am1076_216 X_am1077_219 X_am1078_222 X_am1079_225 X_am10710_228 X_am10711_231 X_am10712_234 X_am10713_237 (ab_add X_r_9 20) X_p2)) X_am981_156 M_am981_156 F_am981_156 S_am981_156 N_am981_156 X_f0_piled_150 X_f0_clock_151 X_f0_groups_152 X_f0_wrong_153 X_am986_171 X_am987_174 X_am988_177 X_am989_180 X_am9810_183 X_am9811_186 X_am9812_189 X_am9813_192 (ab_add X_r_9 19) X_p1)) X_am841_110 M_am841_110 F_am841_110 S_am841_110 N_am841_110 X_f0_piled_104 X_f0_clock_105 X_f0_groups_106 X_f0_wrong_107 X_am846_125 X_am847_128 X_am848_131 X_am849_134 X_am8410_137 X_am8411_140 X_am8412_143 X_am8413_146 (ab_add (ab_add X_r_9 17) 17) (ab_sub X_p0 (ab_mul (ab_div X_p0 28) 28)))) X_am721_64 M_am721_64 F_am721_64 S_am721_64 N_am721_64 X_f0_piled_58 X_f0_clock_59 X_f0_groups_60 X_f0_wrong_61 X_am726_79 X_am727_82 X_am728_85 X_am729_88 X_am7210_91 X_am7211_94 X_am7212_97 X_am7213_100 (ab_add X_r_9 17) (ab_div X_p0 28))) X_am631_19 M_am631_19 F_am631_19 S_am631_19 N_am631_19 X_f0_piled_13 X_f0_clock_14 X_f0_groups_15 X_f0_wrong_16 X_am636_34 X_am637_37 X_am638_40 X_am639_43 X_am6310_46 X_am6311_49 X_am6312_52 X_am6313_55 (ab_add X_r_9 16) 17)) X_a1 M_a1 F_a1 S_a1 N_a1 X_f0_piled X_f0_clock X_f0_groups X_f0_wrong X_a6 X_a7 X_a8 X_a9 X_a10 X_a11 X_a12 X_a13 17 (ab_rdc X_a1 (ab_add X_r_9 21))))) X_x4_7) (k 13 X_a1 M_a1 F_a1 S_a1 N_a1 X_f0_piled X_f0_clock X_f0_groups X_f0_wrong X_a6 X_a7 X_a8 X_a9 X_a10 X_a11 X_a12 X_a13)))) (k 15 X_a1 M_a1 F_a1 S_a1 N_a1 X_f0_piled X_f0_clock X_f0_groups X_f0_wrong X_a6 X_a7 X_a8 X_a9 X_a10 X_a11 X_a12 X_a13))))))) X_a1 M_a1 F_a1 S_a1 N_a1 X_f0_piled X_f0_clock X_f0_groups X_f0_wrong X_a6 X_a7 X_a8 X_a9 X_a10 X_a11 X_a12 X_a13 X_p0)
theorem sz_arrow {e : Nat → Int32} {post : Int32 → St2 → Prop} {k : Nat → Nat → Nat → Nat → Nat → Nat → Nat → Nat → Nat → Nat → Nat → Nat → Nat → Nat → Nat → Nat → Nat → Nat → Bool} {X_a1 M_a1 F_a1 S_a1 N_a1 X_f0_piled X_f0_clock X_f0_groups X_f0_wrong X_a6 X_a7 X_a8 X_a9 X_a10 X_a11 X_a12 X_a13 X_p0 X_p1 X_p2 : Nat} {f0_op f0_piled f0_clock f0_groups f0_wrong p0 p1 p2 : Int32} {a1 a2 a3 a4 a5 a6 a7 a8 a9 a10 a11 a12 a13 : Nat → Int32} (hb : bz_arrow k X_a1 M_a1 F_a1 S_a1 N_a1 X_f0_piled X_f0_clock X_f0_groups X_f0_wrong X_a6 X_a7 X_a8 X_a9 X_a10 X_a11 X_a12 X_a13 X_p0 X_p1 X_p2 = true) (hk : ∀ ⦃R A M F S N P C G W B6 B7 B8 B9 B10 B11 B12 B13 : Nat⦄ ⦃r op pi cl gr wr : Int32⦄ ⦃c1 c2 c3 c4 c5 c6 c7 c8 c9 c10 c11 c12 c13 : Nat → Int32⦄, k R A M F S N P C G W B6 B7 B8 B9 B10 B11 B12 B13 = true → ab_rv e R r → ab_rg e A M F S N op c1 c2 c3 c4 c5 → ab_rv e P pi → ab_rv e C cl → ab_rv e G gr → ab_rv e W wr → ab_ra e 12 B6 c6 → ab_ra e 12 B7 c7 → ab_ra e 12 B8 c8 → ab_ra e 12 B9 c9 → ab_ra e 12 B10 c10 → ab_ra e 12 B11 c11 → ab_ra e 12 B12 c12 → ab_ra e 12 B13 c13 → post r (op, pi, cl, gr, wr, c1, c2, c3, c4, c5, c6, c7, c8, c9, c10, c11, c12, c13)) (g_a1 : ab_rg e X_a1 M_a1 F_a1 S_a1 N_a1 f0_op a1 a2 a3 a4 a5) (h_f0_piled : ab_rv e X_f0_piled f0_piled) (h_f0_clock : ab_rv e X_f0_clock f0_clock) (h_f0_groups : ab_rv e X_f0_groups f0_groups) (h_f0_wrong : ab_rv e X_f0_wrong f0_wrong) (h_a6 : ab_ra e 12 X_a6 a6) (h_a7 : ab_ra e 12 X_a7 a7) (h_a8 : ab_ra e 12 X_a8 a8) (h_a9 : ab_ra e 12 X_a9 a9) (h_a10 : ab_ra e 12 X_a10 a10) (h_a11 : ab_ra e 12 X_a11 a11) (h_a12 : ab_ra e 12 X_a12 a12) (h_a13 : ab_ra e 12 X_a13 a13) (h_p0 : ab_rv e X_p0 p0) (h_p1 : ab_rv e X_p1 p1) (h_p2 : ab_rv e X_p2 p2) : wpX_arrow post (f0_op, f0_piled, f0_clock, f0_groups, f0_wrong, a1, a2, a3, a4, a5, a6, a7, a8, a9, a10, a11, a12, a13) p0 p1 p2 := by
  unfold wpX_arrow
  refine sz_areEnds hb ?_ g_a1 h_f0_piled h_f0_clock h_f0_groups h_f0_wrong h_a6 h_a7 h_a8 h_a9 h_a10 h_a11 h_a12 h_a13 h_p0
  intro X_r_1 r_1 hb h_r_1
  refine ab_eqS hb h_r_1 ab_l0 (fun hb => ?_) (fun hb => ?_)
  · exact hk hb ab_m1 g_a1 h_f0_piled h_f0_clock h_f0_groups h_f0_wrong h_a6 h_a7 h_a8 h_a9 h_a10 h_a11 h_a12 h_a13
  · refine ab_ltS hb h_p1 ab_l0 (fun hb => ?_) (fun hb => ?_)
    · exact hk hb ab_m1 g_a1 h_f0_piled h_f0_clock h_f0_groups h_f0_wrong h_a6 h_a7 h_a8 h_a9 h_a10 h_a11 h_a12 h_a13
    · refine ab_ltS hb ab_l3 h_p1 (fun hb => ?_) (fun hb => ?_)
      · exact hk hb ab_m1 g_a1 h_f0_piled h_f0_clock h_f0_groups h_f0_wrong h_a6 h_a7 h_a8 h_a9 h_a10 h_a11 h_a12 h_a13
      · refine ab_ltS hb h_p2 ab_l0 (fun hb => ?_) (fun hb => ?_)
        · exact hk hb ab_m1 g_a1 h_f0_piled h_f0_clock h_f0_groups h_f0_wrong h_a6 h_a7 h_a8 h_a9 h_a10 h_a11 h_a12 h_a13
        · refine ab_leS hb h_p2 ab_l99 (fun hb => ?_) (fun hb => ?_)
          · refine ab_letS hb (ab_rdk 1 g_a1.1 (by decide)) ?_
            intro X_x4_7 x4_7 hb h_x4_7
            refine ab_leS hb ab_l0 h_x4_7 (fun hb => ?_) (fun hb => ?_)
            · refine sz_arrowCell hb ?_ h_x4_7
              intro X_r_9 r_9 hb h_r_9
              refine ab_vinS hb (by decide) (ab_addS h_r_9 ab_l5) (fun hb => ?_)
              refine sz_put hb ?_ g_a1 h_f0_piled h_f0_clock h_f0_groups h_f0_wrong h_a6 h_a7 h_a8 h_a9 h_a10 h_a11 h_a12 h_a13 ab_l1 (ab_rdcS g_a1.1 (ab_addS h_r_9 ab_l5))
              intro X_am631_19 M_am631_19 F_am631_19 S_am631_19 N_am631_19 X_f0_piled_13 X_f0_clock_14 X_f0_groups_15 X_f0_wrong_16 X_am636_34 X_am637_37 X_am638_40 X_am639_43 X_am6310_46 X_am6311_49 X_am6312_52 X_am6313_55 f0_op_12 f0_piled_13 f0_clock_14 f0_groups_15 f0_wrong_16 am631_19 am632_22 am633_25 am634_28 am635_31 am636_34 am637_37 am638_40 am639_43 am6310_46 am6311_49 am6312_52 am6313_55 hb g_am631_19 h_f0_piled_13 h_f0_clock_14 h_f0_groups_15 h_f0_wrong_16 h_am636_34 h_am637_37 h_am638_40 h_am639_43 h_am6310_46 h_am6311_49 h_am6312_52 h_am6313_55
              refine sz_put hb ?_ g_am631_19 h_f0_piled_13 h_f0_clock_14 h_f0_groups_15 h_f0_wrong_16 h_am636_34 h_am637_37 h_am638_40 h_am639_43 h_am6310_46 h_am6311_49 h_am6312_52 h_am6313_55 (ab_addS h_r_9 ab_l0) ab_l1
              intro X_am721_64 M_am721_64 F_am721_64 S_am721_64 N_am721_64 X_f0_piled_58 X_f0_clock_59 X_f0_groups_60 X_f0_wrong_61 X_am726_79 X_am727_82 X_am728_85 X_am729_88 X_am7210_91 X_am7211_94 X_am7212_97 X_am7213_100 f0_op_57 f0_piled_58 f0_clock_59 f0_groups_60 f0_wrong_61 am721_64 am722_67 am723_70 am724_73 am725_76 am726_79 am727_82 am728_85 am729_88 am7210_91 am7211_94 am7212_97 am7213_100 hb g_am721_64 h_f0_piled_58 h_f0_clock_59 h_f0_groups_60 h_f0_wrong_61 h_am726_79 h_am727_82 h_am728_85 h_am729_88 h_am7210_91 h_am7211_94 h_am7212_97 h_am7213_100
              refine ab_d12 ?_
              refine sz_put hb ?_ g_am721_64 h_f0_piled_58 h_f0_clock_59 h_f0_groups_60 h_f0_wrong_61 h_am726_79 h_am727_82 h_am728_85 h_am729_88 h_am7210_91 h_am7211_94 h_am7212_97 h_am7213_100 (ab_addS h_r_9 ab_l1) (ab_divS h_p0 ab_l12)
              intro X_am841_110 M_am841_110 F_am841_110 S_am841_110 N_am841_110 X_f0_piled_104 X_f0_clock_105 X_f0_groups_106 X_f0_wrong_107 X_am846_125 X_am847_128 X_am848_131 X_am849_134 X_am8410_137 X_am8411_140 X_am8412_143 X_am8413_146 f0_op_103 f0_piled_104 f0_clock_105 f0_groups_106 f0_wrong_107 am841_110 am842_113 am843_116 am844_119 am845_122 am846_125 am847_128 am848_131 am849_134 am8410_137 am8411_140 am8412_143 am8413_146 hb g_am841_110 h_f0_piled_104 h_f0_clock_105 h_f0_groups_106 h_f0_wrong_107 h_am846_125 h_am847_128 h_am848_131 h_am849_134 h_am8410_137 h_am8411_140 h_am8412_143 h_am8413_146
              refine ab_d12 ?_
              refine sz_put hb ?_ g_am841_110 h_f0_piled_104 h_f0_clock_105 h_f0_groups_106 h_f0_wrong_107 h_am846_125 h_am847_128 h_am848_131 h_am849_134 h_am8410_137 h_am8411_140 h_am8412_143 h_am8413_146 (ab_addS (ab_addS h_r_9 ab_l1) ab_l1) (ab_subS h_p0 (ab_mulS (ab_divS h_p0 ab_l12) ab_l12))
              intro X_am981_156 M_am981_156 F_am981_156 S_am981_156 N_am981_156 X_f0_piled_150 X_f0_clock_151 X_f0_groups_152 X_f0_wrong_153 X_am986_171 X_am987_174 X_am988_177 X_am989_180 X_am9810_183 X_am9811_186 X_am9812_189 X_am9813_192 f0_op_149 f0_piled_150 f0_clock_151 f0_groups_152 f0_wrong_153 am981_156 am982_159 am983_162 am984_165 am985_168 am986_171 am987_174 am988_177 am989_180 am9810_183 am9811_186 am9812_189 am9813_192 hb g_am981_156 h_f0_piled_150 h_f0_clock_151 h_f0_groups_152 h_f0_wrong_153 h_am986_171 h_am987_174 h_am988_177 h_am989_180 h_am9810_183 h_am9811_186 h_am9812_189 h_am9813_192
              refine sz_put hb ?_ g_am981_156 h_f0_piled_150 h_f0_clock_151 h_f0_groups_152 h_f0_wrong_153 h_am986_171 h_am987_174 h_am988_177 h_am989_180 h_am9810_183 h_am9811_186 h_am9812_189 h_am9813_192 (ab_addS h_r_9 ab_l3) h_p1
              intro X_am1071_201 M_am1071_201 F_am1071_201 S_am1071_201 N_am1071_201 X_f0_piled_195 X_f0_clock_196 X_f0_groups_197 X_f0_wrong_198 X_am1076_216 X_am1077_219 X_am1078_222 X_am1079_225 X_am10710_228 X_am10711_231 X_am10712_234 X_am10713_237 f0_op_194 f0_piled_195 f0_clock_196 f0_groups_197 f0_wrong_198 am1071_201 am1072_204 am1073_207 am1074_210 am1075_213 am1076_216 am1077_219 am1078_222 am1079_225 am10710_228 am10711_231 am10712_234 am10713_237 hb g_am1071_201 h_f0_piled_195 h_f0_clock_196 h_f0_groups_197 h_f0_wrong_198 h_am1076_216 h_am1077_219 h_am1078_222 h_am1079_225 h_am10710_228 h_am10711_231 h_am10712_234 h_am10713_237
              refine sz_put hb ?_ g_am1071_201 h_f0_piled_195 h_f0_clock_196 h_f0_groups_197 h_f0_wrong_198 h_am1076_216 h_am1077_219 h_am1078_222 h_am1079_225 h_am10710_228 h_am10711_231 h_am10712_234 h_am10713_237 (ab_addS h_r_9 ab_l4) h_p2
              intro X_am1161_246 M_am1161_246 F_am1161_246 S_am1161_246 N_am1161_246 X_f0_piled_240 X_f0_clock_241 X_f0_groups_242 X_f0_wrong_243 X_am1166_261 X_am1167_264 X_am1168_267 X_am1169_270 X_am11610_273 X_am11611_276 X_am11612_279 X_am11613_282 f0_op_239 f0_piled_240 f0_clock_241 f0_groups_242 f0_wrong_243 am1161_246 am1162_249 am1163_252 am1164_255 am1165_258 am1166_261 am1167_264 am1168_267 am1169_270 am11610_273 am11611_276 am11612_279 am11613_282 hb g_am1161_246 h_f0_piled_240 h_f0_clock_241 h_f0_groups_242 h_f0_wrong_243 h_am1166_261 h_am1167_264 h_am1168_267 h_am1169_270 h_am11610_273 h_am11611_276 h_am11612_279 h_am11613_282
              refine sz_chain hb ?_ g_am1161_246 h_f0_piled_240 h_f0_clock_241 h_f0_groups_242 h_f0_wrong_243 h_am1166_261 h_am1167_264 h_am1168_267 h_am1169_270 h_am11610_273 h_am11611_276 h_am11612_279 h_am11613_282 h_x4_7 ab_l0
              intro X_am1231_291 M_am1231_291 F_am1231_291 S_am1231_291 N_am1231_291 X_f0_piled_285 X_f0_clock_286 X_f0_groups_287 X_f0_wrong_288 X_am1236_306 X_am1237_309 X_am1238_312 X_am1239_315 X_am12310_318 X_am12311_321 X_am12312_324 X_am12313_327 f0_op_284 f0_piled_285 f0_clock_286 f0_groups_287 f0_wrong_288 am1231_291 am1232_294 am1233_297 am1234_300 am1235_303 am1236_306 am1237_309 am1238_312 am1239_315 am12310_318 am12311_321 am12312_324 am12313_327 hb g_am1231_291 h_f0_piled_285 h_f0_clock_286 h_f0_groups_287 h_f0_wrong_288 h_am1236_306 h_am1237_309 h_am1238_312 h_am1239_315 h_am12310_318 h_am12311_321 h_am12312_324 h_am12313_327
              refine sz_chain hb ?_ g_am1231_291 h_f0_piled_285 h_f0_clock_286 h_f0_groups_287 h_f0_wrong_288 h_am1236_306 h_am1237_309 h_am1238_312 h_am1239_315 h_am12310_318 h_am12311_321 h_am12312_324 h_am12313_327 h_x4_7 ab_l1
              intro X_am1301_336 M_am1301_336 F_am1301_336 S_am1301_336 N_am1301_336 X_f0_piled_330 X_f0_clock_331 X_f0_groups_332 X_f0_wrong_333 X_am1306_351 X_am1307_354 X_am1308_357 X_am1309_360 X_am13010_363 X_am13011_366 X_am13012_369 X_am13013_372 f0_op_329 f0_piled_330 f0_clock_331 f0_groups_332 f0_wrong_333 am1301_336 am1302_339 am1303_342 am1304_345 am1305_348 am1306_351 am1307_354 am1308_357 am1309_360 am13010_363 am13011_366 am13012_369 am13013_372 hb g_am1301_336 h_f0_piled_330 h_f0_clock_331 h_f0_groups_332 h_f0_wrong_333 h_am1306_351 h_am1307_354 h_am1308_357 h_am1309_360 h_am13010_363 h_am13011_366 h_am13012_369 h_am13013_372
              refine ab_d12 ?_
              refine sz_nodeAt hb ?_ (ab_divS h_p0 ab_l12)
              intro X_r_374 r_374 hb h_r_374
              refine sz_add hb ?_ g_am1301_336 h_f0_piled_330 h_f0_clock_331 h_f0_groups_332 h_f0_wrong_333 h_am1306_351 h_am1307_354 h_am1308_357 h_am1309_360 h_am13010_363 h_am13011_366 h_am13012_369 h_am13013_372 (ab_addS h_r_374 ab_l6) ab_l1
              intro X_am1451_383 M_am1451_383 F_am1451_383 S_am1451_383 N_am1451_383 X_f0_piled_377 X_f0_clock_378 X_f0_groups_379 X_f0_wrong_380 X_am1456_398 X_am1457_401 X_am1458_404 X_am1459_407 X_am14510_410 X_am14511_413 X_am14512_416 X_am14513_419 f0_op_376 f0_piled_377 f0_clock_378 f0_groups_379 f0_wrong_380 am1451_383 am1452_386 am1453_389 am1454_392 am1455_395 am1456_398 am1457_401 am1458_404 am1459_407 am14510_410 am14511_413 am14512_416 am14513_419 hb g_am1451_383 h_f0_piled_377 h_f0_clock_378 h_f0_groups_379 h_f0_wrong_380 h_am1456_398 h_am1457_401 h_am1458_404 h_am1459_407 h_am14510_410 h_am14511_413 h_am14512_416 h_am14513_419
              refine ab_d12 ?_
              refine sz_nodeAt hb ?_ (ab_subS h_p0 (ab_mulS (ab_divS h_p0 ab_l12) ab_l12))
              intro X_r_421 r_421 hb h_r_421
              refine sz_add hb ?_ g_am1451_383 h_f0_piled_377 h_f0_clock_378 h_f0_groups_379 h_f0_wrong_380 h_am1456_398 h_am1457_401 h_am1458_404 h_am1459_407 h_am14510_410 h_am14511_413 h_am14512_416 h_am14513_419 (ab_addS h_r_421 ab_l6) ab_l1
              intro X_am1601_430 M_am1601_430 F_am1601_430 S_am1601_430 N_am1601_430 X_f0_piled_424 X_f0_clock_425 X_f0_groups_426 X_f0_wrong_427 X_am1606_445 X_am1607_448 X_am1608_451 X_am1609_454 X_am16010_457 X_am16011_460 X_am16012_463 X_am16013_466 f0_op_423 f0_piled_424 f0_clock_425 f0_groups_426 f0_wrong_427 am1601_430 am1602_433 am1603_436 am1604_439 am1605_442 am1606_445 am1607_448 am1608_451 am1609_454 am16010_457 am16011_460 am16012_463 am16013_466 hb g_am1601_430 h_f0_piled_424 h_f0_clock_425 h_f0_groups_426 h_f0_wrong_427 h_am1606_445 h_am1607_448 h_am1608_451 h_am1609_454 h_am16010_457 h_am16011_460 h_am16012_463 h_am16013_466
              refine sz_add hb ?_ g_am1601_430 h_f0_piled_424 h_f0_clock_425 h_f0_groups_426 h_f0_wrong_427 h_am1606_445 h_am1607_448 h_am1608_451 h_am1609_454 h_am16010_457 h_am16011_460 h_am16012_463 h_am16013_466 ab_l3 ab_l1
              intro X_am1661_475 M_am1661_475 F_am1661_475 S_am1661_475 N_am1661_475 X_f0_piled_469 X_f0_clock_470 X_f0_groups_471 X_f0_wrong_472 X_am1666_490 X_am1667_493 X_am1668_496 X_am1669_499 X_am16610_502 X_am16611_505 X_am16612_508 X_am16613_511 f0_op_468 f0_piled_469 f0_clock_470 f0_groups_471 f0_wrong_472 am1661_475 am1662_478 am1663_481 am1664_484 am1665_487 am1666_490 am1667_493 am1668_496 am1669_499 am16610_502 am16611_505 am16612_508 am16613_511 hb g_am1661_475 h_f0_piled_469 h_f0_clock_470 h_f0_groups_471 h_f0_wrong_472 h_am1666_490 h_am1667_493 h_am1668_496 h_am1669_499 h_am16610_502 h_am16611_505 h_am16612_508 h_am16613_511
              exact hk hb h_x4_7 g_am1661_475 h_f0_piled_469 h_f0_clock_470 h_f0_groups_471 h_f0_wrong_472 h_am1666_490 h_am1667_493 h_am1668_496 h_am1669_499 h_am16610_502 h_am16611_505 h_am16612_508 h_am16613_511
            · exact hk hb ab_m3 g_a1 h_f0_piled h_f0_clock h_f0_groups h_f0_wrong h_a6 h_a7 h_a8 h_a9 h_a10 h_a11 h_a12 h_a13
          · exact hk hb ab_m1 g_a1 h_f0_piled h_f0_clock h_f0_groups h_f0_wrong h_a6 h_a7 h_a8 h_a9 h_a10 h_a11 h_a12 h_a13
noncomputable def bz_node (k : Nat → Nat → Nat → Nat → Nat → Nat → Nat → Nat → Nat → Nat → Nat → Nat → Nat → Nat → Nat → Nat → Nat → Nat → Bool) (X_a1 M_a1 F_a1 S_a1 N_a1 X_f0_piled X_f0_clock X_f0_groups X_f0_wrong X_a6 X_a7 X_a8 X_a9 X_a10 X_a11 X_a12 X_a13 X_p0 X_p1 : Nat) : Bool :=
  (ab_lt X_p0 16 (k 15 X_a1 M_a1 F_a1 S_a1 N_a1 X_f0_piled X_f0_clock X_f0_groups X_f0_wrong X_a6 X_a7 X_a8 X_a9 X_a10 X_a11 X_a12 X_a13) (ab_le X_p0 23 (ab_str (ab_get X_a1 0) (fun X_x3_3 => (ab_le 16 X_x3_3 (bz_nodeAt (fun X_r_5 => (ab_vin 340 (ab_add X_r_5 21) (bz_put (fun X_am431_15 M_am431_15 F_am431_15 S_am431_15 N_am431_15 X_f0_piled_9 X_f0_clock_10 X_f0_groups_11 X_f0_wrong_12 X_am436_30 X_am437_33 X_am438_36 X_am439_39 X_am4310_42 X_am4311_45 X_am4312_48 X_am4313_51 => (bz_put (fun X_am521_60 M_am521_60 F_am521_60 S_am521_60 N_am521_60 X_f0_piled_54 X_f0_clock_55 X_f0_groups_56 X_f0_wrong_57 X_am526_75 X_am527_78 X_am528_81 X_am529_84 X_am5210_87 X_am5211_90 X_am5212_93 X_am5213_96 => (bz_put (fun X_am611_105 M_am611_105 F_am611_105 S_am611_105 N_am611_105 X_f0_piled_99 X_f0_clock_100 X_f0_groups_101 X_f0_wrong_102 X_am616_120 X_am617_123 X_am618_126 X_am619_129 X_am6110_132 X_am6111_135 X_am6112_138 X_am6113_141 => (bz_put (fun X_am701_150 M_am701_150 F_am701_150 S_am701_150 N_am701_150 X_f0_piled_144 X_f0_clock_145 X_f0_groups_146 X_f0_wrong_147 X_am706_165 X_am707_168 X_am708_171 X_am709_174 X_am7010_177 X_am7011_180 X_am7012_183 X_am7013_186 => (bz_put (fun X_am791_195 M_am791_195 F_am791_195 S_am791_195 N_am791_195 X_f0_piled_189 X_f0_clock_190 X_f0_groups_191 X_f0_wrong_192 X_am796_210 X_am797_213 X_am798_216 X_am799_219 X_am7910_222 X_am7911_225 X_am7912_228 X_am7913_231 => (bz_put (fun X_am901_240 M_am901_240 F_am901_240 S_am901_240 N_am901_240 X_f0_piled_234 X_f0_clock_235 X_f0_groups_236 X_f0_wrong_237 X_am906_255 X_am907_258 X_am908_261 X_am909_264 X_am9010_267 X_am9011_270 X_am9012_273 X_am9013_276 => (bz_put (fun X_am1001_285 M_am1001_285 F_am1001_285 S_am1001_285 N_am1001_285 X_f0_piled_279 X_f0_clock_280 X_f0_groups_281 X_f0_wrong_282 X_am1006_300 X_am1007_303 X_am1008_306 X_am1009_309 X_am10010_312 X_am10011_315 X_am10012_318 X_am10013_321 => (bz_insertInRow (fun X_am1061_330 M_am1061_330 F_am1061_330 S_am1061_330 N_am1061_330 X_f0_piled_324 X_f0_clock_325 X_f0_groups_326 X_f0_wrong_327 X_am1066_345 X_am1067_348 X_am1068_351 X_am1069_354 X_am10610_357 X_am10611_360 X_am10612_363 X_am10613_366 => (k X_x3_3 X_am1061_330 M_am1061_330 F_am1061_330 S_am1061_330 N_am1061_330 X_f0_piled_324 X_f0_clock_325 X_f0_groups_326 X_f0_wrong_327 X_am1066_345 X_am1067_348 X_am1068_351 X_am1069_354 X_am10610_357 X_am10611_360 X_am10612_363 X_am10613_366)) X_am1001_285 M_am1001_285 F_am1001_285 S_am1001_285 N_am1001_285 X_f0_piled_279 X_f0_clock_280 X_f0_groups_281 X_f0_wrong_282 X_am1006_300 X_am1007_303 X_am1008_306 X_am1009_309 X_am10010_312 X_am10011_315 X_am10012_318 X_am10013_321 X_x3_3 X_p1)) X_am901_240 M_am901_240 F_am901_240 S_am901_240 N_am901_240 X_f0_piled_234 X_f0_clock_235 X_f0_groups_236 X_f0_wrong_237 X_am906_255 X_am907_258 X_am908_261 X_am909_264 X_am9010_267 X_am9011_270 X_am9012_273 X_am9013_276 (ab_add X_r_5 22) 16)) X_am791_195 M_am791_195 F_am791_195 S_am791_195 N_am791_195 X_f0_piled_189 X_f0_clock_190 X_f0_groups_191 X_f0_wrong_192 X_am796_210 X_am797_213 X_am798_216 X_am799_219 X_am7910_222 X_am7911_225 X_am7912_228 X_am7913_231 (ab_add (ab_add X_r_5 19) 17) 15)) X_am701_150 M_am701_150 F_am701_150 S_am701_150 N_am701_150 X_f0_piled_144 X_f0_clock_145 X_f0_groups_146 X_f0_wrong_147 X_am706_165 X_am707_168 X_am708_171 X_am709_174 X_am7010_177 X_am7011_180 X_am7012_183 X_am7013_186 (ab_add X_r_5 19) 15)) X_am611_105 M_am611_105 F_am611_105 S_am611_105 N_am611_105 X_f0_piled_99 X_f0_clock_100 X_f0_groups_101 X_f0_wrong_102 X_am616_120 X_am617_123 X_am618_126 X_am619_129 X_am6110_132 X_am6111_135 X_am6112_138 X_am6113_141 (ab_add X_r_5 18) X_p1)) X_am521_60 M_am521_60 F_am521_60 S_am521_60 N_am521_60 X_f0_piled_54 X_f0_clock_55 X_f0_groups_56 X_f0_wrong_57 X_am526_75 X_am527_78 X_am528_81 X_am529_84 X_am5210_87 X_am5211_90 X_am5212_93 X_am5213_96 (ab_add X_r_5 17) X_p0)) X_am431_15 M_am431_15 F_am431_15 S_am431_15 N_am431_15 X_f0_piled_9 X_f0_clock_10 X_f0_groups_11 X_f0_wrong_12 X_am436_30 X_am437_33 X_am438_36 X_am439_39 X_am4310_42 X_am4311_45 X_am4312_48 X_am4313_51 (ab_add X_r_5 16) 17)) X_a1 M_a1 F_a1 S_a1 N_a1 X_f0_piled X_f0_clock X_f0_groups X_f0_wrong X_a6 X_a7 X_a8 X_a9 X_a10 X_a11 X_a12 X_a13 16 (ab_rdc X_a1 (ab_add X_r_5 21))))) X_x3_3) (k 13 X_a1 M_a1 F_a1 S_a1 N_a1 X_f0_piled X_f0_clock X_f0_groups X_f0_wrong X_a6 X_a7 X_a8 X_a9 X_a10 X_a11 X_a12 X_a13)))) (k 15 X_a1 M_a1 F_a1 S_a1 N_a1 X_f0_piled X_f0_clock X_f0_groups X_f0_wrong X_a6 X_a7 X_a8 X_a9 X_a10 X_a11 X_a12 X_a13)))
theorem sz_node {e : Nat → Int32} {post : Int32 → St2 → Prop} {k : Nat → Nat → Nat → Nat → Nat → Nat → Nat → Nat → Nat → Nat → Nat → Nat → Nat → Nat → Nat → Nat → Nat → Nat → Bool} {X_a1 M_a1 F_a1 S_a1 N_a1 X_f0_piled X_f0_clock X_f0_groups X_f0_wrong X_a6 X_a7 X_a8 X_a9 X_a10 X_a11 X_a12 X_a13 X_p0 X_p1 : Nat} {f0_op f0_piled f0_clock f0_groups f0_wrong p0 p1 : Int32} {a1 a2 a3 a4 a5 a6 a7 a8 a9 a10 a11 a12 a13 : Nat → Int32} (hb : bz_node k X_a1 M_a1 F_a1 S_a1 N_a1 X_f0_piled X_f0_clock X_f0_groups X_f0_wrong X_a6 X_a7 X_a8 X_a9 X_a10 X_a11 X_a12 X_a13 X_p0 X_p1 = true) (hk : ∀ ⦃R A M F S N P C G W B6 B7 B8 B9 B10 B11 B12 B13 : Nat⦄ ⦃r op pi cl gr wr : Int32⦄ ⦃c1 c2 c3 c4 c5 c6 c7 c8 c9 c10 c11 c12 c13 : Nat → Int32⦄, k R A M F S N P C G W B6 B7 B8 B9 B10 B11 B12 B13 = true → ab_rv e R r → ab_rg e A M F S N op c1 c2 c3 c4 c5 → ab_rv e P pi → ab_rv e C cl → ab_rv e G gr → ab_rv e W wr → ab_ra e 12 B6 c6 → ab_ra e 12 B7 c7 → ab_ra e 12 B8 c8 → ab_ra e 12 B9 c9 → ab_ra e 12 B10 c10 → ab_ra e 12 B11 c11 → ab_ra e 12 B12 c12 → ab_ra e 12 B13 c13 → post r (op, pi, cl, gr, wr, c1, c2, c3, c4, c5, c6, c7, c8, c9, c10, c11, c12, c13)) (g_a1 : ab_rg e X_a1 M_a1 F_a1 S_a1 N_a1 f0_op a1 a2 a3 a4 a5) (h_f0_piled : ab_rv e X_f0_piled f0_piled) (h_f0_clock : ab_rv e X_f0_clock f0_clock) (h_f0_groups : ab_rv e X_f0_groups f0_groups) (h_f0_wrong : ab_rv e X_f0_wrong f0_wrong) (h_a6 : ab_ra e 12 X_a6 a6) (h_a7 : ab_ra e 12 X_a7 a7) (h_a8 : ab_ra e 12 X_a8 a8) (h_a9 : ab_ra e 12 X_a9 a9) (h_a10 : ab_ra e 12 X_a10 a10) (h_a11 : ab_ra e 12 X_a11 a11) (h_a12 : ab_ra e 12 X_a12 a12) (h_a13 : ab_ra e 12 X_a13 a13) (h_p0 : ab_rv e X_p0 p0) (h_p1 : ab_rv e X_p1 p1) : wpX_node post (f0_op, f0_piled, f0_clock, f0_groups, f0_wrong, a1, a2, a3, a4, a5, a6, a7, a8, a9, a10, a11, a12, a13) p0 p1 := by
  refine ab_ltS hb h_p0 ab_l0 (fun hb => ?_) (fun hb => ?_)
  · exact hk hb ab_m1 g_a1 h_f0_piled h_f0_clock h_f0_groups h_f0_wrong h_a6 h_a7 h_a8 h_a9 h_a10 h_a11 h_a12 h_a13
  · refine ab_leS hb h_p0 ab_l7 (fun hb => ?_) (fun hb => ?_)
    · refine ab_letS hb (ab_rdk 0 g_a1.1 (by decide)) ?_
      intro X_x3_3 x3_3 hb h_x3_3
      refine ab_leS hb ab_l0 h_x3_3 (fun hb => ?_) (fun hb => ?_)
      · refine sz_nodeAt hb ?_ h_x3_3
        intro X_r_5 r_5 hb h_r_5
        refine ab_vinS hb (by decide) (ab_addS h_r_5 ab_l5) (fun hb => ?_)
        refine sz_put hb ?_ g_a1 h_f0_piled h_f0_clock h_f0_groups h_f0_wrong h_a6 h_a7 h_a8 h_a9 h_a10 h_a11 h_a12 h_a13 ab_l0 (ab_rdcS g_a1.1 (ab_addS h_r_5 ab_l5))
        intro X_am431_15 M_am431_15 F_am431_15 S_am431_15 N_am431_15 X_f0_piled_9 X_f0_clock_10 X_f0_groups_11 X_f0_wrong_12 X_am436_30 X_am437_33 X_am438_36 X_am439_39 X_am4310_42 X_am4311_45 X_am4312_48 X_am4313_51 f0_op_8 f0_piled_9 f0_clock_10 f0_groups_11 f0_wrong_12 am431_15 am432_18 am433_21 am434_24 am435_27 am436_30 am437_33 am438_36 am439_39 am4310_42 am4311_45 am4312_48 am4313_51 hb g_am431_15 h_f0_piled_9 h_f0_clock_10 h_f0_groups_11 h_f0_wrong_12 h_am436_30 h_am437_33 h_am438_36 h_am439_39 h_am4310_42 h_am4311_45 h_am4312_48 h_am4313_51
        refine sz_put hb ?_ g_am431_15 h_f0_piled_9 h_f0_clock_10 h_f0_groups_11 h_f0_wrong_12 h_am436_30 h_am437_33 h_am438_36 h_am439_39 h_am4310_42 h_am4311_45 h_am4312_48 h_am4313_51 (ab_addS h_r_5 ab_l0) ab_l1
        intro X_am521_60 M_am521_60 F_am521_60 S_am521_60 N_am521_60 X_f0_piled_54 X_f0_clock_55 X_f0_groups_56 X_f0_wrong_57 X_am526_75 X_am527_78 X_am528_81 X_am529_84 X_am5210_87 X_am5211_90 X_am5212_93 X_am5213_96 f0_op_53 f0_piled_54 f0_clock_55 f0_groups_56 f0_wrong_57 am521_60 am522_63 am523_66 am524_69 am525_72 am526_75 am527_78 am528_81 am529_84 am5210_87 am5211_90 am5212_93 am5213_96 hb g_am521_60 h_f0_piled_54 h_f0_clock_55 h_f0_groups_56 h_f0_wrong_57 h_am526_75 h_am527_78 h_am528_81 h_am529_84 h_am5210_87 h_am5211_90 h_am5212_93 h_am5213_96
        refine sz_put hb ?_ g_am521_60 h_f0_piled_54 h_f0_clock_55 h_f0_groups_56 h_f0_wrong_57 h_am526_75 h_am527_78 h_am528_81 h_am529_84 h_am5210_87 h_am5211_90 h_am5212_93 h_am5213_96 (ab_addS h_r_5 ab_l1) h_p0
        intro X_am611_105 M_am611_105 F_am611_105 S_am611_105 N_am611_105 X_f0_piled_99 X_f0_clock_100 X_f0_groups_101 X_f0_wrong_102 X_am616_120 X_am617_123 X_am618_126 X_am619_129 X_am6110_132 X_am6111_135 X_am6112_138 X_am6113_141 f0_op_98 f0_piled_99 f0_clock_100 f0_groups_101 f0_wrong_102 am611_105 am612_108 am613_111 am614_114 am615_117 am616_120 am617_123 am618_126 am619_129 am6110_132 am6111_135 am6112_138 am6113_141 hb g_am611_105 h_f0_piled_99 h_f0_clock_100 h_f0_groups_101 h_f0_wrong_102 h_am616_120 h_am617_123 h_am618_126 h_am619_129 h_am6110_132 h_am6111_135 h_am6112_138 h_am6113_141
        refine sz_put hb ?_ g_am611_105 h_f0_piled_99 h_f0_clock_100 h_f0_groups_101 h_f0_wrong_102 h_am616_120 h_am617_123 h_am618_126 h_am619_129 h_am6110_132 h_am6111_135 h_am6112_138 h_am6113_141 (ab_addS h_r_5 ab_l2) h_p1
        intro X_am701_150 M_am701_150 F_am701_150 S_am701_150 N_am701_150 X_f0_piled_144 X_f0_clock_145 X_f0_groups_146 X_f0_wrong_147 X_am706_165 X_am707_168 X_am708_171 X_am709_174 X_am7010_177 X_am7011_180 X_am7012_183 X_am7013_186 f0_op_143 f0_piled_144 f0_clock_145 f0_groups_146 f0_wrong_147 am701_150 am702_153 am703_156 am704_159 am705_162 am706_165 am707_168 am708_171 am709_174 am7010_177 am7011_180 am7012_183 am7013_186 hb g_am701_150 h_f0_piled_144 h_f0_clock_145 h_f0_groups_146 h_f0_wrong_147 h_am706_165 h_am707_168 h_am708_171 h_am709_174 h_am7010_177 h_am7011_180 h_am7012_183 h_am7013_186
        refine sz_put hb ?_ g_am701_150 h_f0_piled_144 h_f0_clock_145 h_f0_groups_146 h_f0_wrong_147 h_am706_165 h_am707_168 h_am708_171 h_am709_174 h_am7010_177 h_am7011_180 h_am7012_183 h_am7013_186 (ab_addS h_r_5 ab_l3) ab_m1
        intro X_am791_195 M_am791_195 F_am791_195 S_am791_195 N_am791_195 X_f0_piled_189 X_f0_clock_190 X_f0_groups_191 X_f0_wrong_192 X_am796_210 X_am797_213 X_am798_216 X_am799_219 X_am7910_222 X_am7911_225 X_am7912_228 X_am7913_231 f0_op_188 f0_piled_189 f0_clock_190 f0_groups_191 f0_wrong_192 am791_195 am792_198 am793_201 am794_204 am795_207 am796_210 am797_213 am798_216 am799_219 am7910_222 am7911_225 am7912_228 am7913_231 hb g_am791_195 h_f0_piled_189 h_f0_clock_190 h_f0_groups_191 h_f0_wrong_192 h_am796_210 h_am797_213 h_am798_216 h_am799_219 h_am7910_222 h_am7911_225 h_am7912_228 h_am7913_231
        refine sz_put hb ?_ g_am791_195 h_f0_piled_189 h_f0_clock_190 h_f0_groups_191 h_f0_wrong_192 h_am796_210 h_am797_213 h_am798_216 h_am799_219 h_am7910_222 h_am7911_225 h_am7912_228 h_am7913_231 (ab_addS (ab_addS h_r_5 ab_l3) ab_l1) ab_m1
        intro X_am901_240 M_am901_240 F_am901_240 S_am901_240 N_am901_240 X_f0_piled_234 X_f0_clock_235 X_f0_groups_236 X_f0_wrong_237 X_am906_255 X_am907_258 X_am908_261 X_am909_264 X_am9010_267 X_am9011_270 X_am9012_273 X_am9013_276 f0_op_233 f0_piled_234 f0_clock_235 f0_groups_236 f0_wrong_237 am901_240 am902_243 am903_246 am904_249 am905_252 am906_255 am907_258 am908_261 am909_264 am9010_267 am9011_270 am9012_273 am9013_276 hb g_am901_240 h_f0_piled_234 h_f0_clock_235 h_f0_groups_236 h_f0_wrong_237 h_am906_255 h_am907_258 h_am908_261 h_am909_264 h_am9010_267 h_am9011_270 h_am9012_273 h_am9013_276
        refine sz_put hb ?_ g_am901_240 h_f0_piled_234 h_f0_clock_235 h_f0_groups_236 h_f0_wrong_237 h_am906_255 h_am907_258 h_am908_261 h_am909_264 h_am9010_267 h_am9011_270 h_am9012_273 h_am9013_276 (ab_addS h_r_5 ab_l6) ab_l0
        intro X_am1001_285 M_am1001_285 F_am1001_285 S_am1001_285 N_am1001_285 X_f0_piled_279 X_f0_clock_280 X_f0_groups_281 X_f0_wrong_282 X_am1006_300 X_am1007_303 X_am1008_306 X_am1009_309 X_am10010_312 X_am10011_315 X_am10012_318 X_am10013_321 f0_op_278 f0_piled_279 f0_clock_280 f0_groups_281 f0_wrong_282 am1001_285 am1002_288 am1003_291 am1004_294 am1005_297 am1006_300 am1007_303 am1008_306 am1009_309 am10010_312 am10011_315 am10012_318 am10013_321 hb g_am1001_285 h_f0_piled_279 h_f0_clock_280 h_f0_groups_281 h_f0_wrong_282 h_am1006_300 h_am1007_303 h_am1008_306 h_am1009_309 h_am10010_312 h_am10011_315 h_am10012_318 h_am10013_321
        refine sz_insertInRow hb ?_ g_am1001_285 h_f0_piled_279 h_f0_clock_280 h_f0_groups_281 h_f0_wrong_282 h_am1006_300 h_am1007_303 h_am1008_306 h_am1009_309 h_am10010_312 h_am10011_315 h_am10012_318 h_am10013_321 h_x3_3 h_p1
        intro X_am1061_330 M_am1061_330 F_am1061_330 S_am1061_330 N_am1061_330 X_f0_piled_324 X_f0_clock_325 X_f0_groups_326 X_f0_wrong_327 X_am1066_345 X_am1067_348 X_am1068_351 X_am1069_354 X_am10610_357 X_am10611_360 X_am10612_363 X_am10613_366 f0_op_323 f0_piled_324 f0_clock_325 f0_groups_326 f0_wrong_327 am1061_330 am1062_333 am1063_336 am1064_339 am1065_342 am1066_345 am1067_348 am1068_351 am1069_354 am10610_357 am10611_360 am10612_363 am10613_366 hb g_am1061_330 h_f0_piled_324 h_f0_clock_325 h_f0_groups_326 h_f0_wrong_327 h_am1066_345 h_am1067_348 h_am1068_351 h_am1069_354 h_am10610_357 h_am10611_360 h_am10612_363 h_am10613_366
        exact hk hb h_x3_3 g_am1061_330 h_f0_piled_324 h_f0_clock_325 h_f0_groups_326 h_f0_wrong_327 h_am1066_345 h_am1067_348 h_am1068_351 h_am1069_354 h_am10610_357 h_am10611_360 h_am10612_363 h_am10613_366
      · exact hk hb ab_m3 g_a1 h_f0_piled h_f0_clock h_f0_groups h_f0_wrong h_a6 h_a7 h_a8 h_a9 h_a10 h_a11 h_a12 h_a13
    · exact hk hb ab_m1 g_a1 h_f0_piled h_f0_clock h_f0_groups h_f0_wrong h_a6 h_a7 h_a8 h_a9 h_a10 h_a11 h_a12 h_a13
noncomputable def bz_setNode (k : Nat → Nat → Nat → Nat → Nat → Nat → Nat → Nat → Nat → Nat → Nat → Nat → Nat → Nat → Nat → Nat → Nat → Nat → Bool) (X_a1 M_a1 F_a1 S_a1 N_a1 X_f0_piled X_f0_clock X_f0_groups X_f0_wrong X_a6 X_a7 X_a8 X_a9 X_a10 X_a11 X_a12 X_a13 X_p0 X_p1 X_p2 : Nat) : Bool :=
  (bz_isNode (fun X_r_1 => (ab_eq X_r_1 16 (k 15 X_a1 M_a1 F_a1 S_a1 N_a1 X_f0_piled X_f0_clock X_f0_groups X_f0_wrong X_a6 X_a7 X_a8 X_a9 X_a10 X_a11 X_a12 X_a13) (ab_lt X_p1 16 (k 15 X_a1 M_a1 F_a1 S_a1 N_a1 X_f0_piled X_f0_clock X_f0_groups X_f0_wrong X_a6 X_a7 X_a8 X_a9 X_a10 X_a11 X_a12 X_a13) (ab_le X_p1 23 (bz_nodeAt (fun X_r_5 => (ab_vin 340 (ab_add X_r_5 17) (ab_str (ab_rdc X_a1 (ab_add X_r_5 17)) (fun X_x5_7 => (bz_put (fun X_am431_16 M_am431_16 F_am431_16 S_am431_16 N_am431_16 X_f0_piled_10 X_f0_clock_11 X_f0_groups_12 X_f0_wrong_13 X_am436_31 X_am437_34 X_am438_37 X_am439_40 X_am4310_43 X_am4311_46 X_am4312_49 X_am4313_52 => (ab_vin 340 (ab_add X_r_5 18) (ab_eq (ab_rdc X_am431_16 (ab_add X_r_5 18)) X_p2 (k X_x5_7 X_am431_16 M_am431_16 F_am431_16 S_am431_16 N_am431_16 X_f0_piled_10 X_f0_clock_11 X_f0_groups_12 X_f0_wrong_13 X_am436_31 X_am437_34 X_am438_37 X_am439_40 X_am4310_43 X_am4311_46 X_am4312_49 X_am4313_52) (bz_removeFromRow (fun X_am611_63 M_am611_63 F_am611_63 S_am611_63 N_am611_63 X_f0_piled_57 X_f0_clock_58 X_f0_groups_59 X_f0_wrong_60 X_am616_78 X_am617_81 X_am618_84 X_am619_87 X_am6110_90 X_am6111_93 X_am6112_96 X_am6113_99 => (bz_put (fun X_am701_108 M_am701_108 F_am701_108 S_am701_108 N_am701_108 X_f0_piled_102 X_f0_clock_103 X_f0_groups_104 X_f0_wrong_105 X_am706_123 X_am707_126 X_am708_129 X_am709_132 X_am7010_135 X_am7011_138 X_am7012_141 X_am7013_144 => (bz_insertInRow (fun X_am761_153 M_am761_153 F_am761_153 S_am761_153 N_am761_153 X_f0_piled_147 X_f0_clock_148 X_f0_groups_149 X_f0_wrong_150 X_am766_168 X_am767_171 X_am768_174 X_am769_177 X_am7610_180 X_am7611_183 X_am7612_186 X_am7613_189 => (k X_x5_7 X_am761_153 M_am761_153 F_am761_153 S_am761_153 N_am761_153 X_f0_piled_147 X_f0_clock_148 X_f0_groups_149 X_f0_wrong_150 X_am766_168 X_am767_171 X_am768_174 X_am769_177 X_am7610_180 X_am7611_183 X_am7612_186 X_am7613_189)) X_am701_108 M_am701_108 F_am701_108 S_am701_108 N_am701_108 X_f0_piled_102 X_f0_clock_103 X_f0_groups_104 X_f0_wrong_105 X_am706_123 X_am707_126 X_am708_129 X_am709_132 X_am7010_135 X_am7011_138 X_am7012_141 X_am7013_144 X_p0 X_p2)) X_am611_63 M_am611_63 F_am611_63 S_am611_63 N_am611_63 X_f0_piled_57 X_f0_clock_58 X_f0_groups_59 X_f0_wrong_60 X_am616_78 X_am617_81 X_am618_84 X_am619_87 X_am6110_90 X_am6111_93 X_am6112_96 X_am6113_99 (ab_add X_r_5 18) X_p2)) X_am431_16 M_am431_16 F_am431_16 S_am431_16 N_am431_16 X_f0_piled_10 X_f0_clock_11 X_f0_groups_12 X_f0_wrong_13 X_am436_31 X_am437_34 X_am438_37 X_am439_40 X_am4310_43 X_am4311_46 X_am4312_49 X_am4313_52 X_p0)))) X_a1 M_a1 F_a1 S_a1 N_a1 X_f0_piled X_f0_clock X_f0_groups X_f0_wrong X_a6 X_a7 X_a8 X_a9 X_a10 X_a11 X_a12 X_a13 (ab_add X_r_5 17) X_p1))))) X_p0) (k 15 X_a1 M_a1 F_a1 S_a1 N_a1 X_f0_piled X_f0_clock X_f0_groups X_f0_wrong X_a6 X_a7 X_a8 X_a9 X_a10 X_a11 X_a12 X_a13))))) X_a1 M_a1 F_a1 S_a1 N_a1 X_f0_piled X_f0_clock X_f0_groups X_f0_wrong X_a6 X_a7 X_a8 X_a9 X_a10 X_a11 X_a12 X_a13 X_p0)
theorem sz_setNode {e : Nat → Int32} {post : Int32 → St2 → Prop} {k : Nat → Nat → Nat → Nat → Nat → Nat → Nat → Nat → Nat → Nat → Nat → Nat → Nat → Nat → Nat → Nat → Nat → Nat → Bool} {X_a1 M_a1 F_a1 S_a1 N_a1 X_f0_piled X_f0_clock X_f0_groups X_f0_wrong X_a6 X_a7 X_a8 X_a9 X_a10 X_a11 X_a12 X_a13 X_p0 X_p1 X_p2 : Nat} {f0_op f0_piled f0_clock f0_groups f0_wrong p0 p1 p2 : Int32} {a1 a2 a3 a4 a5 a6 a7 a8 a9 a10 a11 a12 a13 : Nat → Int32} (hb : bz_setNode k X_a1 M_a1 F_a1 S_a1 N_a1 X_f0_piled X_f0_clock X_f0_groups X_f0_wrong X_a6 X_a7 X_a8 X_a9 X_a10 X_a11 X_a12 X_a13 X_p0 X_p1 X_p2 = true) (hk : ∀ ⦃R A M F S N P C G W B6 B7 B8 B9 B10 B11 B12 B13 : Nat⦄ ⦃r op pi cl gr wr : Int32⦄ ⦃c1 c2 c3 c4 c5 c6 c7 c8 c9 c10 c11 c12 c13 : Nat → Int32⦄, k R A M F S N P C G W B6 B7 B8 B9 B10 B11 B12 B13 = true → ab_rv e R r → ab_rg e A M F S N op c1 c2 c3 c4 c5 → ab_rv e P pi → ab_rv e C cl → ab_rv e G gr → ab_rv e W wr → ab_ra e 12 B6 c6 → ab_ra e 12 B7 c7 → ab_ra e 12 B8 c8 → ab_ra e 12 B9 c9 → ab_ra e 12 B10 c10 → ab_ra e 12 B11 c11 → ab_ra e 12 B12 c12 → ab_ra e 12 B13 c13 → post r (op, pi, cl, gr, wr, c1, c2, c3, c4, c5, c6, c7, c8, c9, c10, c11, c12, c13)) (g_a1 : ab_rg e X_a1 M_a1 F_a1 S_a1 N_a1 f0_op a1 a2 a3 a4 a5) (h_f0_piled : ab_rv e X_f0_piled f0_piled) (h_f0_clock : ab_rv e X_f0_clock f0_clock) (h_f0_groups : ab_rv e X_f0_groups f0_groups) (h_f0_wrong : ab_rv e X_f0_wrong f0_wrong) (h_a6 : ab_ra e 12 X_a6 a6) (h_a7 : ab_ra e 12 X_a7 a7) (h_a8 : ab_ra e 12 X_a8 a8) (h_a9 : ab_ra e 12 X_a9 a9) (h_a10 : ab_ra e 12 X_a10 a10) (h_a11 : ab_ra e 12 X_a11 a11) (h_a12 : ab_ra e 12 X_a12 a12) (h_a13 : ab_ra e 12 X_a13 a13) (h_p0 : ab_rv e X_p0 p0) (h_p1 : ab_rv e X_p1 p1) (h_p2 : ab_rv e X_p2 p2) : wpX_setNode post (f0_op, f0_piled, f0_clock, f0_groups, f0_wrong, a1, a2, a3, a4, a5, a6, a7, a8, a9, a10, a11, a12, a13) p0 p1 p2 := by
  unfold wpX_setNode
  refine sz_isNode hb ?_ g_a1 h_f0_piled h_f0_clock h_f0_groups h_f0_wrong h_a6 h_a7 h_a8 h_a9 h_a10 h_a11 h_a12 h_a13 h_p0
  intro X_r_1 r_1 hb h_r_1
  refine ab_eqS hb h_r_1 ab_l0 (fun hb => ?_) (fun hb => ?_)
  · exact hk hb ab_m1 g_a1 h_f0_piled h_f0_clock h_f0_groups h_f0_wrong h_a6 h_a7 h_a8 h_a9 h_a10 h_a11 h_a12 h_a13
  · refine ab_ltS hb h_p1 ab_l0 (fun hb => ?_) (fun hb => ?_)
    · exact hk hb ab_m1 g_a1 h_f0_piled h_f0_clock h_f0_groups h_f0_wrong h_a6 h_a7 h_a8 h_a9 h_a10 h_a11 h_a12 h_a13
    · refine ab_leS hb h_p1 ab_l7 (fun hb => ?_) (fun hb => ?_)
      · refine sz_nodeAt hb ?_ h_p0
        intro X_r_5 r_5 hb h_r_5
        refine ab_vinS hb (by decide) (ab_addS h_r_5 ab_l1) (fun hb => ?_)
        refine ab_letS hb (ab_rdcS g_a1.1 (ab_addS h_r_5 ab_l1)) ?_
        intro X_x5_7 x5_7 hb h_x5_7
        refine sz_put hb ?_ g_a1 h_f0_piled h_f0_clock h_f0_groups h_f0_wrong h_a6 h_a7 h_a8 h_a9 h_a10 h_a11 h_a12 h_a13 (ab_addS h_r_5 ab_l1) h_p1
        intro X_am431_16 M_am431_16 F_am431_16 S_am431_16 N_am431_16 X_f0_piled_10 X_f0_clock_11 X_f0_groups_12 X_f0_wrong_13 X_am436_31 X_am437_34 X_am438_37 X_am439_40 X_am4310_43 X_am4311_46 X_am4312_49 X_am4313_52 f0_op_9 f0_piled_10 f0_clock_11 f0_groups_12 f0_wrong_13 am431_16 am432_19 am433_22 am434_25 am435_28 am436_31 am437_34 am438_37 am439_40 am4310_43 am4311_46 am4312_49 am4313_52 hb g_am431_16 h_f0_piled_10 h_f0_clock_11 h_f0_groups_12 h_f0_wrong_13 h_am436_31 h_am437_34 h_am438_37 h_am439_40 h_am4310_43 h_am4311_46 h_am4312_49 h_am4313_52
        refine ab_vinS hb (by decide) (ab_addS h_r_5 ab_l2) (fun hb => ?_)
        refine ab_eqS hb (ab_rdcS g_am431_16.1 (ab_addS h_r_5 ab_l2)) h_p2 (fun hb => ?_) (fun hb => ?_)
        · exact hk hb h_x5_7 g_am431_16 h_f0_piled_10 h_f0_clock_11 h_f0_groups_12 h_f0_wrong_13 h_am436_31 h_am437_34 h_am438_37 h_am439_40 h_am4310_43 h_am4311_46 h_am4312_49 h_am4313_52
        · refine sz_removeFromRow hb ?_ g_am431_16 h_f0_piled_10 h_f0_clock_11 h_f0_groups_12 h_f0_wrong_13 h_am436_31 h_am437_34 h_am438_37 h_am439_40 h_am4310_43 h_am4311_46 h_am4312_49 h_am4313_52 h_p0
          intro X_am611_63 M_am611_63 F_am611_63 S_am611_63 N_am611_63 X_f0_piled_57 X_f0_clock_58 X_f0_groups_59 X_f0_wrong_60 X_am616_78 X_am617_81 X_am618_84 X_am619_87 X_am6110_90 X_am6111_93 X_am6112_96 X_am6113_99 f0_op_56 f0_piled_57 f0_clock_58 f0_groups_59 f0_wrong_60 am611_63 am612_66 am613_69 am614_72 am615_75 am616_78 am617_81 am618_84 am619_87 am6110_90 am6111_93 am6112_96 am6113_99 hb g_am611_63 h_f0_piled_57 h_f0_clock_58 h_f0_groups_59 h_f0_wrong_60 h_am616_78 h_am617_81 h_am618_84 h_am619_87 h_am6110_90 h_am6111_93 h_am6112_96 h_am6113_99
          refine sz_put hb ?_ g_am611_63 h_f0_piled_57 h_f0_clock_58 h_f0_groups_59 h_f0_wrong_60 h_am616_78 h_am617_81 h_am618_84 h_am619_87 h_am6110_90 h_am6111_93 h_am6112_96 h_am6113_99 (ab_addS h_r_5 ab_l2) h_p2
          intro X_am701_108 M_am701_108 F_am701_108 S_am701_108 N_am701_108 X_f0_piled_102 X_f0_clock_103 X_f0_groups_104 X_f0_wrong_105 X_am706_123 X_am707_126 X_am708_129 X_am709_132 X_am7010_135 X_am7011_138 X_am7012_141 X_am7013_144 f0_op_101 f0_piled_102 f0_clock_103 f0_groups_104 f0_wrong_105 am701_108 am702_111 am703_114 am704_117 am705_120 am706_123 am707_126 am708_129 am709_132 am7010_135 am7011_138 am7012_141 am7013_144 hb g_am701_108 h_f0_piled_102 h_f0_clock_103 h_f0_groups_104 h_f0_wrong_105 h_am706_123 h_am707_126 h_am708_129 h_am709_132 h_am7010_135 h_am7011_138 h_am7012_141 h_am7013_144
          refine sz_insertInRow hb ?_ g_am701_108 h_f0_piled_102 h_f0_clock_103 h_f0_groups_104 h_f0_wrong_105 h_am706_123 h_am707_126 h_am708_129 h_am709_132 h_am7010_135 h_am7011_138 h_am7012_141 h_am7013_144 h_p0 h_p2
          intro X_am761_153 M_am761_153 F_am761_153 S_am761_153 N_am761_153 X_f0_piled_147 X_f0_clock_148 X_f0_groups_149 X_f0_wrong_150 X_am766_168 X_am767_171 X_am768_174 X_am769_177 X_am7610_180 X_am7611_183 X_am7612_186 X_am7613_189 f0_op_146 f0_piled_147 f0_clock_148 f0_groups_149 f0_wrong_150 am761_153 am762_156 am763_159 am764_162 am765_165 am766_168 am767_171 am768_174 am769_177 am7610_180 am7611_183 am7612_186 am7613_189 hb g_am761_153 h_f0_piled_147 h_f0_clock_148 h_f0_groups_149 h_f0_wrong_150 h_am766_168 h_am767_171 h_am768_174 h_am769_177 h_am7610_180 h_am7611_183 h_am7612_186 h_am7613_189
          exact hk hb h_x5_7 g_am761_153 h_f0_piled_147 h_f0_clock_148 h_f0_groups_149 h_f0_wrong_150 h_am766_168 h_am767_171 h_am768_174 h_am769_177 h_am7610_180 h_am7611_183 h_am7612_186 h_am7613_189
      · exact hk hb ab_m1 g_a1 h_f0_piled h_f0_clock h_f0_groups h_f0_wrong h_a6 h_a7 h_a8 h_a9 h_a10 h_a11 h_a12 h_a13
noncomputable def bz_setWeight (k : Nat → Nat → Nat → Nat → Nat → Nat → Nat → Nat → Nat → Nat → Nat → Nat → Nat → Nat → Nat → Nat → Nat → Nat → Bool) (X_a1 M_a1 F_a1 S_a1 N_a1 X_f0_piled X_f0_clock X_f0_groups X_f0_wrong X_a6 X_a7 X_a8 X_a9 X_a10 X_a11 X_a12 X_a13 X_p0 X_p1 : Nat) : Bool :=
  (bz_isArrow (fun X_r_1 => (ab_eq X_r_1 16 (k 15 X_a1 M_a1 F_a1 S_a1 N_a1 X_f0_piled X_f0_clock X_f0_groups X_f0_wrong X_a6 X_a7 X_a8 X_a9 X_a10 X_a11 X_a12 X_a13) (ab_lt X_p1 16 (k 15 X_a1 M_a1 F_a1 S_a1 N_a1 X_f0_piled X_f0_clock X_f0_groups X_f0_wrong X_a6 X_a7 X_a8 X_a9 X_a10 X_a11 X_a12 X_a13) (ab_le X_p1 115 (bz_arrowCell (fun X_r_5 => (ab_vin 340 (ab_add X_r_5 20) (ab_str (ab_rdc X_a1 (ab_add X_r_5 20)) (fun X_x3_7 => (bz_arrowCell (fun X_r_8 => (bz_put (fun X_am401_17 M_am401_17 F_am401_17 S_am401_17 N_am401_17 X_f0_piled_11 X_f0_clock_12 X_f0_groups_13 X_f0_wrong_14 X_am406_32 X_am407_35 X_am408_38 X_am409_41 X_am4010_44 X_am4011_47 X_am4012_50 X_am4013_53 => (k X_x3_7 X_am401_17 M_am401_17 F_am401_17 S_am401_17 N_am401_17 X_f0_piled_11 X_f0_clock_12 X_f0_groups_13 X_f0_wrong_14 X_am406_32 X_am407_35 X_am408_38 X_am409_41 X_am4010_44 X_am4011_47 X_am4012_50 X_am4013_53)) X_a1 M_a1 F_a1 S_a1 N_a1 X_f0_piled X_f0_clock X_f0_groups X_f0_wrong X_a6 X_a7 X_a8 X_a9 X_a10 X_a11 X_a12 X_a13 (ab_add X_r_8 20) X_p1)) X_p0))))) X_p0) (k 15 X_a1 M_a1 F_a1 S_a1 N_a1 X_f0_piled X_f0_clock X_f0_groups X_f0_wrong X_a6 X_a7 X_a8 X_a9 X_a10 X_a11 X_a12 X_a13))))) X_a1 M_a1 F_a1 S_a1 N_a1 X_f0_piled X_f0_clock X_f0_groups X_f0_wrong X_a6 X_a7 X_a8 X_a9 X_a10 X_a11 X_a12 X_a13 X_p0)
theorem sz_setWeight {e : Nat → Int32} {post : Int32 → St2 → Prop} {k : Nat → Nat → Nat → Nat → Nat → Nat → Nat → Nat → Nat → Nat → Nat → Nat → Nat → Nat → Nat → Nat → Nat → Nat → Bool} {X_a1 M_a1 F_a1 S_a1 N_a1 X_f0_piled X_f0_clock X_f0_groups X_f0_wrong X_a6 X_a7 X_a8 X_a9 X_a10 X_a11 X_a12 X_a13 X_p0 X_p1 : Nat} {f0_op f0_piled f0_clock f0_groups f0_wrong p0 p1 : Int32} {a1 a2 a3 a4 a5 a6 a7 a8 a9 a10 a11 a12 a13 : Nat → Int32} (hb : bz_setWeight k X_a1 M_a1 F_a1 S_a1 N_a1 X_f0_piled X_f0_clock X_f0_groups X_f0_wrong X_a6 X_a7 X_a8 X_a9 X_a10 X_a11 X_a12 X_a13 X_p0 X_p1 = true) (hk : ∀ ⦃R A M F S N P C G W B6 B7 B8 B9 B10 B11 B12 B13 : Nat⦄ ⦃r op pi cl gr wr : Int32⦄ ⦃c1 c2 c3 c4 c5 c6 c7 c8 c9 c10 c11 c12 c13 : Nat → Int32⦄, k R A M F S N P C G W B6 B7 B8 B9 B10 B11 B12 B13 = true → ab_rv e R r → ab_rg e A M F S N op c1 c2 c3 c4 c5 → ab_rv e P pi → ab_rv e C cl → ab_rv e G gr → ab_rv e W wr → ab_ra e 12 B6 c6 → ab_ra e 12 B7 c7 → ab_ra e 12 B8 c8 → ab_ra e 12 B9 c9 → ab_ra e 12 B10 c10 → ab_ra e 12 B11 c11 → ab_ra e 12 B12 c12 → ab_ra e 12 B13 c13 → post r (op, pi, cl, gr, wr, c1, c2, c3, c4, c5, c6, c7, c8, c9, c10, c11, c12, c13)) (g_a1 : ab_rg e X_a1 M_a1 F_a1 S_a1 N_a1 f0_op a1 a2 a3 a4 a5) (h_f0_piled : ab_rv e X_f0_piled f0_piled) (h_f0_clock : ab_rv e X_f0_clock f0_clock) (h_f0_groups : ab_rv e X_f0_groups f0_groups) (h_f0_wrong : ab_rv e X_f0_wrong f0_wrong) (h_a6 : ab_ra e 12 X_a6 a6) (h_a7 : ab_ra e 12 X_a7 a7) (h_a8 : ab_ra e 12 X_a8 a8) (h_a9 : ab_ra e 12 X_a9 a9) (h_a10 : ab_ra e 12 X_a10 a10) (h_a11 : ab_ra e 12 X_a11 a11) (h_a12 : ab_ra e 12 X_a12 a12) (h_a13 : ab_ra e 12 X_a13 a13) (h_p0 : ab_rv e X_p0 p0) (h_p1 : ab_rv e X_p1 p1) : wpX_setWeight post (f0_op, f0_piled, f0_clock, f0_groups, f0_wrong, a1, a2, a3, a4, a5, a6, a7, a8, a9, a10, a11, a12, a13) p0 p1 := by
  unfold wpX_setWeight
  refine sz_isArrow hb ?_ g_a1 h_f0_piled h_f0_clock h_f0_groups h_f0_wrong h_a6 h_a7 h_a8 h_a9 h_a10 h_a11 h_a12 h_a13 h_p0
  intro X_r_1 r_1 hb h_r_1
  refine ab_eqS hb h_r_1 ab_l0 (fun hb => ?_) (fun hb => ?_)
  · exact hk hb ab_m1 g_a1 h_f0_piled h_f0_clock h_f0_groups h_f0_wrong h_a6 h_a7 h_a8 h_a9 h_a10 h_a11 h_a12 h_a13
  · refine ab_ltS hb h_p1 ab_l0 (fun hb => ?_) (fun hb => ?_)
    · exact hk hb ab_m1 g_a1 h_f0_piled h_f0_clock h_f0_groups h_f0_wrong h_a6 h_a7 h_a8 h_a9 h_a10 h_a11 h_a12 h_a13
    · refine ab_leS hb h_p1 ab_l99 (fun hb => ?_) (fun hb => ?_)
      · refine sz_arrowCell hb ?_ h_p0
        intro X_r_5 r_5 hb h_r_5
        refine ab_vinS hb (by decide) (ab_addS h_r_5 ab_l4) (fun hb => ?_)
        refine ab_letS hb (ab_rdcS g_a1.1 (ab_addS h_r_5 ab_l4)) ?_
        intro X_x3_7 x3_7 hb h_x3_7
        refine sz_arrowCell hb ?_ h_p0
        intro X_r_8 r_8 hb h_r_8
        refine sz_put hb ?_ g_a1 h_f0_piled h_f0_clock h_f0_groups h_f0_wrong h_a6 h_a7 h_a8 h_a9 h_a10 h_a11 h_a12 h_a13 (ab_addS h_r_8 ab_l4) h_p1
        intro X_am401_17 M_am401_17 F_am401_17 S_am401_17 N_am401_17 X_f0_piled_11 X_f0_clock_12 X_f0_groups_13 X_f0_wrong_14 X_am406_32 X_am407_35 X_am408_38 X_am409_41 X_am4010_44 X_am4011_47 X_am4012_50 X_am4013_53 f0_op_10 f0_piled_11 f0_clock_12 f0_groups_13 f0_wrong_14 am401_17 am402_20 am403_23 am404_26 am405_29 am406_32 am407_35 am408_38 am409_41 am4010_44 am4011_47 am4012_50 am4013_53 hb g_am401_17 h_f0_piled_11 h_f0_clock_12 h_f0_groups_13 h_f0_wrong_14 h_am406_32 h_am407_35 h_am408_38 h_am409_41 h_am4010_44 h_am4011_47 h_am4012_50 h_am4013_53
        exact hk hb h_x3_7 g_am401_17 h_f0_piled_11 h_f0_clock_12 h_f0_groups_13 h_f0_wrong_14 h_am406_32 h_am407_35 h_am408_38 h_am409_41 h_am4010_44 h_am4011_47 h_am4012_50 h_am4013_53
      · exact hk hb ab_m1 g_a1 h_f0_piled h_f0_clock h_f0_groups h_f0_wrong h_a6 h_a7 h_a8 h_a9 h_a10 h_a11 h_a12 h_a13
noncomputable def bz_unchain_76 (k : Nat → Nat → Nat → Nat → Nat → Nat → Nat → Nat → Nat → Nat → Nat → Nat → Nat → Nat → Nat → Nat → Nat → Bool) (X_x2 X_x4 X_x5 X_f0_piled X_f0_clock X_f0_groups X_f0_wrong X_am731 M_am731 F_am731 S_am731 N_am731 X_am736 X_am737 X_am738 X_am739 X_am7310 X_am7311 X_am7312 X_am7313 : Nat) : Bool :=
  (ab_lt X_x4 16 (k X_am731 M_am731 F_am731 S_am731 N_am731 X_f0_piled X_f0_clock X_f0_groups X_f0_wrong X_am736 X_am737 X_am738 X_am739 X_am7310 X_am7311 X_am7312 X_am7313) (bz_arrowCell (fun X_r_55 => (bz_put (fun X_am941_64 M_am941_64 F_am941_64 S_am941_64 N_am941_64 X_f0_piled_58 X_f0_clock_59 X_f0_groups_60 X_f0_wrong_61 X_am946_79 X_am947_82 X_am948_85 X_am949_88 X_am9410_91 X_am9411_94 X_am9412_97 X_am9413_100 => (k X_am941_64 M_am941_64 F_am941_64 S_am941_64 N_am941_64 X_f0_piled_58 X_f0_clock_59 X_f0_groups_60 X_f0_wrong_61 X_am946_79 X_am947_82 X_am948_85 X_am949_88 X_am9410_91 X_am9411_94 X_am9412_97 X_am9413_100)) X_am731 M_am731 F_am731 S_am731 N_am731 X_f0_piled X_f0_clock X_f0_groups X_f0_wrong X_am736 X_am737 X_am738 X_am739 X_am7310 X_am7311 X_am7312 X_am7313 (ab_add (ab_add X_r_55 23) X_x2) X_x5)) X_x4))
theorem sz_unchain_76 {e : Nat → Int32} {post : St2 → Prop} {k : Nat → Nat → Nat → Nat → Nat → Nat → Nat → Nat → Nat → Nat → Nat → Nat → Nat → Nat → Nat → Nat → Nat → Bool} {X_x2 X_x4 X_x5 X_f0_piled X_f0_clock X_f0_groups X_f0_wrong X_am731 M_am731 F_am731 S_am731 N_am731 X_am736 X_am737 X_am738 X_am739 X_am7310 X_am7311 X_am7312 X_am7313 : Nat} {x2 x4 x5 f0_op f0_piled f0_clock f0_groups f0_wrong : Int32} {am731 am732 am733 am734 am735 am736 am737 am738 am739 am7310 am7311 am7312 am7313 : Nat → Int32} (hb : bz_unchain_76 k X_x2 X_x4 X_x5 X_f0_piled X_f0_clock X_f0_groups X_f0_wrong X_am731 M_am731 F_am731 S_am731 N_am731 X_am736 X_am737 X_am738 X_am739 X_am7310 X_am7311 X_am7312 X_am7313 = true) (hk : ∀ ⦃A M F S N P C G W B6 B7 B8 B9 B10 B11 B12 B13 : Nat⦄ ⦃op pi cl gr wr : Int32⦄ ⦃c1 c2 c3 c4 c5 c6 c7 c8 c9 c10 c11 c12 c13 : Nat → Int32⦄, k A M F S N P C G W B6 B7 B8 B9 B10 B11 B12 B13 = true → ab_rg e A M F S N op c1 c2 c3 c4 c5 → ab_rv e P pi → ab_rv e C cl → ab_rv e G gr → ab_rv e W wr → ab_ra e 12 B6 c6 → ab_ra e 12 B7 c7 → ab_ra e 12 B8 c8 → ab_ra e 12 B9 c9 → ab_ra e 12 B10 c10 → ab_ra e 12 B11 c11 → ab_ra e 12 B12 c12 → ab_ra e 12 B13 c13 → post (op, pi, cl, gr, wr, c1, c2, c3, c4, c5, c6, c7, c8, c9, c10, c11, c12, c13)) (h_x2 : ab_rv e X_x2 x2) (h_x4 : ab_rv e X_x4 x4) (h_x5 : ab_rv e X_x5 x5) (h_f0_piled : ab_rv e X_f0_piled f0_piled) (h_f0_clock : ab_rv e X_f0_clock f0_clock) (h_f0_groups : ab_rv e X_f0_groups f0_groups) (h_f0_wrong : ab_rv e X_f0_wrong f0_wrong) (g_am731 : ab_rg e X_am731 M_am731 F_am731 S_am731 N_am731 f0_op am731 am732 am733 am734 am735) (h_am736 : ab_ra e 12 X_am736 am736) (h_am737 : ab_ra e 12 X_am737 am737) (h_am738 : ab_ra e 12 X_am738 am738) (h_am739 : ab_ra e 12 X_am739 am739) (h_am7310 : ab_ra e 12 X_am7310 am7310) (h_am7311 : ab_ra e 12 X_am7311 am7311) (h_am7312 : ab_ra e 12 X_am7312 am7312) (h_am7313 : ab_ra e 12 X_am7313 am7313) : wX_unchain_76 post x2 x4 x5 f0_op f0_piled f0_clock f0_groups f0_wrong am731 am732 am733 am734 am735 am736 am737 am738 am739 am7310 am7311 am7312 am7313 := by
  refine ab_ltS hb h_x4 ab_l0 (fun hb => ?_) (fun hb => ?_)
  · exact hk hb g_am731 h_f0_piled h_f0_clock h_f0_groups h_f0_wrong h_am736 h_am737 h_am738 h_am739 h_am7310 h_am7311 h_am7312 h_am7313
  · refine sz_arrowCell hb ?_ h_x4
    intro X_r_55 r_55 hb h_r_55
    refine sz_put hb ?_ g_am731 h_f0_piled h_f0_clock h_f0_groups h_f0_wrong h_am736 h_am737 h_am738 h_am739 h_am7310 h_am7311 h_am7312 h_am7313 (ab_addS (ab_addS h_r_55 ab_l7) h_x2) h_x5
    intro X_am941_64 M_am941_64 F_am941_64 S_am941_64 N_am941_64 X_f0_piled_58 X_f0_clock_59 X_f0_groups_60 X_f0_wrong_61 X_am946_79 X_am947_82 X_am948_85 X_am949_88 X_am9410_91 X_am9411_94 X_am9412_97 X_am9413_100 f0_op_57 f0_piled_58 f0_clock_59 f0_groups_60 f0_wrong_61 am941_64 am942_67 am943_70 am944_73 am945_76 am946_79 am947_82 am948_85 am949_88 am9410_91 am9411_94 am9412_97 am9413_100 hb g_am941_64 h_f0_piled_58 h_f0_clock_59 h_f0_groups_60 h_f0_wrong_61 h_am946_79 h_am947_82 h_am948_85 h_am949_88 h_am9410_91 h_am9411_94 h_am9412_97 h_am9413_100
    exact hk hb g_am941_64 h_f0_piled_58 h_f0_clock_59 h_f0_groups_60 h_f0_wrong_61 h_am946_79 h_am947_82 h_am948_85 h_am949_88 h_am9410_91 h_am9411_94 h_am9412_97 h_am9413_100
noncomputable def bz_unchain (k : Nat → Nat → Nat → Nat → Nat → Nat → Nat → Nat → Nat → Nat → Nat → Nat → Nat → Nat → Nat → Nat → Nat → Bool) (X_a1 M_a1 F_a1 S_a1 N_a1 X_f0_piled X_f0_clock X_f0_groups X_f0_wrong X_a6 X_a7 X_a8 X_a9 X_a10 X_a11 X_a12 X_a13 X_p0 X_p1 : Nat) : Bool :=
  (bz_arrowCell (fun X_r_1 => (ab_vin 340 (ab_add (ab_add X_r_1 21) X_p1) (ab_str (ab_rdc X_a1 (ab_add (ab_add X_r_1 21) X_p1)) (fun X_x4_3 => (ab_vin 340 (ab_add (ab_add X_r_1 23) X_p1) (ab_str (ab_rdc X_a1 (ab_add (ab_add X_r_1 23) X_p1)) (fun X_x5_5 => (ab_lt X_x5_5 16 (ab_vin 340 (ab_add (ab_add X_r_1 17) X_p1) (bz_nodeAt (fun X_r_8 => (bz_put (fun X_am731_17 M_am731_17 F_am731_17 S_am731_17 N_am731_17 X_f0_piled_11 X_f0_clock_12 X_f0_groups_13 X_f0_wrong_14 X_am736_32 X_am737_35 X_am738_38 X_am739_41 X_am7310_44 X_am7311_47 X_am7312_50 X_am7313_53 => (bz_unchain_76 k X_p1 X_x4_3 X_x5_5 X_f0_piled_11 X_f0_clock_12 X_f0_groups_13 X_f0_wrong_14 X_am731_17 M_am731_17 F_am731_17 S_am731_17 N_am731_17 X_am736_32 X_am737_35 X_am738_38 X_am739_41 X_am7310_44 X_am7311_47 X_am7312_50 X_am7313_53)) X_a1 M_a1 F_a1 S_a1 N_a1 X_f0_piled X_f0_clock X_f0_groups X_f0_wrong X_a6 X_a7 X_a8 X_a9 X_a10 X_a11 X_a12 X_a13 (ab_add (ab_add X_r_8 19) X_p1) X_x4_3)) (ab_rdc X_a1 (ab_add (ab_add X_r_1 17) X_p1)))) (bz_arrowCell (fun X_r_101 => (bz_put (fun X_am471_110 M_am471_110 F_am471_110 S_am471_110 N_am471_110 X_f0_piled_104 X_f0_clock_105 X_f0_groups_106 X_f0_wrong_107 X_am476_125 X_am477_128 X_am478_131 X_am479_134 X_am4710_137 X_am4711_140 X_am4712_143 X_am4713_146 => (bz_unchain_76 k X_p1 X_x4_3 X_x5_5 X_f0_piled_104 X_f0_clock_105 X_f0_groups_106 X_f0_wrong_107 X_am471_110 M_am471_110 F_am471_110 S_am471_110 N_am471_110 X_am476_125 X_am477_128 X_am478_131 X_am479_134 X_am4710_137 X_am4711_140 X_am4712_143 X_am4713_146)) X_a1 M_a1 F_a1 S_a1 N_a1 X_f0_piled X_f0_clock X_f0_groups X_f0_wrong X_a6 X_a7 X_a8 X_a9 X_a10 X_a11 X_a12 X_a13 (ab_add (ab_add X_r_101 21) X_p1) X_x4_3)) X_x5_5))))))))) X_p0)
theorem sz_unchain {e : Nat → Int32} {post : St2 → Prop} {k : Nat → Nat → Nat → Nat → Nat → Nat → Nat → Nat → Nat → Nat → Nat → Nat → Nat → Nat → Nat → Nat → Nat → Bool} {X_a1 M_a1 F_a1 S_a1 N_a1 X_f0_piled X_f0_clock X_f0_groups X_f0_wrong X_a6 X_a7 X_a8 X_a9 X_a10 X_a11 X_a12 X_a13 X_p0 X_p1 : Nat} {f0_op f0_piled f0_clock f0_groups f0_wrong p0 p1 : Int32} {a1 a2 a3 a4 a5 a6 a7 a8 a9 a10 a11 a12 a13 : Nat → Int32} (hb : bz_unchain k X_a1 M_a1 F_a1 S_a1 N_a1 X_f0_piled X_f0_clock X_f0_groups X_f0_wrong X_a6 X_a7 X_a8 X_a9 X_a10 X_a11 X_a12 X_a13 X_p0 X_p1 = true) (hk : ∀ ⦃A M F S N P C G W B6 B7 B8 B9 B10 B11 B12 B13 : Nat⦄ ⦃op pi cl gr wr : Int32⦄ ⦃c1 c2 c3 c4 c5 c6 c7 c8 c9 c10 c11 c12 c13 : Nat → Int32⦄, k A M F S N P C G W B6 B7 B8 B9 B10 B11 B12 B13 = true → ab_rg e A M F S N op c1 c2 c3 c4 c5 → ab_rv e P pi → ab_rv e C cl → ab_rv e G gr → ab_rv e W wr → ab_ra e 12 B6 c6 → ab_ra e 12 B7 c7 → ab_ra e 12 B8 c8 → ab_ra e 12 B9 c9 → ab_ra e 12 B10 c10 → ab_ra e 12 B11 c11 → ab_ra e 12 B12 c12 → ab_ra e 12 B13 c13 → post (op, pi, cl, gr, wr, c1, c2, c3, c4, c5, c6, c7, c8, c9, c10, c11, c12, c13)) (g_a1 : ab_rg e X_a1 M_a1 F_a1 S_a1 N_a1 f0_op a1 a2 a3 a4 a5) (h_f0_piled : ab_rv e X_f0_piled f0_piled) (h_f0_clock : ab_rv e X_f0_clock f0_clock) (h_f0_groups : ab_rv e X_f0_groups f0_groups) (h_f0_wrong : ab_rv e X_f0_wrong f0_wrong) (h_a6 : ab_ra e 12 X_a6 a6) (h_a7 : ab_ra e 12 X_a7 a7) (h_a8 : ab_ra e 12 X_a8 a8) (h_a9 : ab_ra e 12 X_a9 a9) (h_a10 : ab_ra e 12 X_a10 a10) (h_a11 : ab_ra e 12 X_a11 a11) (h_a12 : ab_ra e 12 X_a12 a12) (h_a13 : ab_ra e 12 X_a13 a13) (h_p0 : ab_rv e X_p0 p0) (h_p1 : ab_rv e X_p1 p1) : wpX_unchain post (f0_op, f0_piled, f0_clock, f0_groups, f0_wrong, a1, a2, a3, a4, a5, a6, a7, a8, a9, a10, a11, a12, a13) p0 p1 := by
  unfold wpX_unchain
  refine sz_arrowCell hb ?_ h_p0
  intro X_r_1 r_1 hb h_r_1
  refine ab_vinS hb (by decide) (ab_addS (ab_addS h_r_1 ab_l5) h_p1) (fun hb => ?_)
  refine ab_letS hb (ab_rdcS g_a1.1 (ab_addS (ab_addS h_r_1 ab_l5) h_p1)) ?_
  intro X_x4_3 x4_3 hb h_x4_3
  refine ab_vinS hb (by decide) (ab_addS (ab_addS h_r_1 ab_l7) h_p1) (fun hb => ?_)
  refine ab_letS hb (ab_rdcS g_a1.1 (ab_addS (ab_addS h_r_1 ab_l7) h_p1)) ?_
  intro X_x5_5 x5_5 hb h_x5_5
  refine ab_ltS hb h_x5_5 ab_l0 (fun hb => ?_) (fun hb => ?_)
  · refine ab_vinS hb (by decide) (ab_addS (ab_addS h_r_1 ab_l1) h_p1) (fun hb => ?_)
    refine sz_nodeAt hb ?_ (ab_rdcS g_a1.1 (ab_addS (ab_addS h_r_1 ab_l1) h_p1))
    intro X_r_8 r_8 hb h_r_8
    refine sz_put hb ?_ g_a1 h_f0_piled h_f0_clock h_f0_groups h_f0_wrong h_a6 h_a7 h_a8 h_a9 h_a10 h_a11 h_a12 h_a13 (ab_addS (ab_addS h_r_8 ab_l3) h_p1) h_x4_3
    intro X_am731_17 M_am731_17 F_am731_17 S_am731_17 N_am731_17 X_f0_piled_11 X_f0_clock_12 X_f0_groups_13 X_f0_wrong_14 X_am736_32 X_am737_35 X_am738_38 X_am739_41 X_am7310_44 X_am7311_47 X_am7312_50 X_am7313_53 f0_op_10 f0_piled_11 f0_clock_12 f0_groups_13 f0_wrong_14 am731_17 am732_20 am733_23 am734_26 am735_29 am736_32 am737_35 am738_38 am739_41 am7310_44 am7311_47 am7312_50 am7313_53 hb g_am731_17 h_f0_piled_11 h_f0_clock_12 h_f0_groups_13 h_f0_wrong_14 h_am736_32 h_am737_35 h_am738_38 h_am739_41 h_am7310_44 h_am7311_47 h_am7312_50 h_am7313_53
    exact sz_unchain_76 hb hk h_p1 h_x4_3 h_x5_5 h_f0_piled_11 h_f0_clock_12 h_f0_groups_13 h_f0_wrong_14 g_am731_17 h_am736_32 h_am737_35 h_am738_38 h_am739_41 h_am7310_44 h_am7311_47 h_am7312_50 h_am7313_53
  · refine sz_arrowCell hb ?_ h_x5_5
    intro X_r_101 r_101 hb h_r_101
    refine sz_put hb ?_ g_a1 h_f0_piled h_f0_clock h_f0_groups h_f0_wrong h_a6 h_a7 h_a8 h_a9 h_a10 h_a11 h_a12 h_a13 (ab_addS (ab_addS h_r_101 ab_l5) h_p1) h_x4_3
    intro X_am471_110 M_am471_110 F_am471_110 S_am471_110 N_am471_110 X_f0_piled_104 X_f0_clock_105 X_f0_groups_106 X_f0_wrong_107 X_am476_125 X_am477_128 X_am478_131 X_am479_134 X_am4710_137 X_am4711_140 X_am4712_143 X_am4713_146 f0_op_103 f0_piled_104 f0_clock_105 f0_groups_106 f0_wrong_107 am471_110 am472_113 am473_116 am474_119 am475_122 am476_125 am477_128 am478_131 am479_134 am4710_137 am4711_140 am4712_143 am4713_146 hb g_am471_110 h_f0_piled_104 h_f0_clock_105 h_f0_groups_106 h_f0_wrong_107 h_am476_125 h_am477_128 h_am478_131 h_am479_134 h_am4710_137 h_am4711_140 h_am4712_143 h_am4713_146
    exact sz_unchain_76 hb hk h_p1 h_x4_3 h_x5_5 h_f0_piled_104 h_f0_clock_105 h_f0_groups_106 h_f0_wrong_107 g_am471_110 h_am476_125 h_am477_128 h_am478_131 h_am479_134 h_am4710_137 h_am4711_140 h_am4712_143 h_am4713_146
noncomputable def bz_giveBack_44 (k : Nat → Nat → Nat → Nat → Nat → Nat → Nat → Nat → Nat → Nat → Nat → Nat → Nat → Nat → Nat → Nat → Nat → Bool) (X_x2 X_x3 X_x4 X_x5 X_x6 X_f0_piled X_f0_clock X_f0_groups X_f0_wrong X_a1 M_a1 F_a1 S_a1 N_a1 X_a6 X_a7 X_a8 X_a9 X_a10 X_a11 X_a12 X_a13 : Nat) : Bool :=
  (ab_vin 340 X_x6 (bz_put (fun X_am611_12 M_am611_12 F_am611_12 S_am611_12 N_am611_12 X_f0_piled_6 X_f0_clock_7 X_f0_groups_8 X_f0_wrong_9 X_am616_27 X_am617_30 X_am618_33 X_am619_36 X_am6110_39 X_am6111_42 X_am6112_45 X_am6113_48 => (bz_put (fun X_am691_57 M_am691_57 F_am691_57 S_am691_57 N_am691_57 X_f0_piled_51 X_f0_clock_52 X_f0_groups_53 X_f0_wrong_54 X_am696_72 X_am697_75 X_am698_78 X_am699_81 X_am6910_84 X_am6911_87 X_am6912_90 X_am6913_93 => (k X_am691_57 M_am691_57 F_am691_57 S_am691_57 N_am691_57 X_f0_piled_51 X_f0_clock_52 X_f0_groups_53 X_f0_wrong_54 X_am696_72 X_am697_75 X_am698_78 X_am699_81 X_am6910_84 X_am6911_87 X_am6912_90 X_am6913_93)) X_am611_12 M_am611_12 F_am611_12 S_am611_12 N_am611_12 X_f0_piled_6 X_f0_clock_7 X_f0_groups_8 X_f0_wrong_9 X_am616_27 X_am617_30 X_am618_33 X_am619_36 X_am6110_39 X_am6111_42 X_am6112_45 X_am6113_48 X_x6 X_x5)) X_a1 M_a1 F_a1 S_a1 N_a1 X_f0_piled X_f0_clock X_f0_groups X_f0_wrong X_a6 X_a7 X_a8 X_a9 X_a10 X_a11 X_a12 X_a13 (ab_add (ab_add X_x2 (ab_mul X_x3 X_x5)) X_x4) (ab_rdc X_a1 X_x6)))
theorem sz_giveBack_44 {e : Nat → Int32} {post : St2 → Prop} {k : Nat → Nat → Nat → Nat → Nat → Nat → Nat → Nat → Nat → Nat → Nat → Nat → Nat → Nat → Nat → Nat → Nat → Bool} {X_x2 X_x3 X_x4 X_x5 X_x6 X_f0_piled X_f0_clock X_f0_groups X_f0_wrong X_a1 M_a1 F_a1 S_a1 N_a1 X_a6 X_a7 X_a8 X_a9 X_a10 X_a11 X_a12 X_a13 : Nat} {x2 x3 x4 x5 x6 f0_op f0_piled f0_clock f0_groups f0_wrong : Int32} {a1 a2 a3 a4 a5 a6 a7 a8 a9 a10 a11 a12 a13 : Nat → Int32} (hb : bz_giveBack_44 k X_x2 X_x3 X_x4 X_x5 X_x6 X_f0_piled X_f0_clock X_f0_groups X_f0_wrong X_a1 M_a1 F_a1 S_a1 N_a1 X_a6 X_a7 X_a8 X_a9 X_a10 X_a11 X_a12 X_a13 = true) (hk : ∀ ⦃A M F S N P C G W B6 B7 B8 B9 B10 B11 B12 B13 : Nat⦄ ⦃op pi cl gr wr : Int32⦄ ⦃c1 c2 c3 c4 c5 c6 c7 c8 c9 c10 c11 c12 c13 : Nat → Int32⦄, k A M F S N P C G W B6 B7 B8 B9 B10 B11 B12 B13 = true → ab_rg e A M F S N op c1 c2 c3 c4 c5 → ab_rv e P pi → ab_rv e C cl → ab_rv e G gr → ab_rv e W wr → ab_ra e 12 B6 c6 → ab_ra e 12 B7 c7 → ab_ra e 12 B8 c8 → ab_ra e 12 B9 c9 → ab_ra e 12 B10 c10 → ab_ra e 12 B11 c11 → ab_ra e 12 B12 c12 → ab_ra e 12 B13 c13 → post (op, pi, cl, gr, wr, c1, c2, c3, c4, c5, c6, c7, c8, c9, c10, c11, c12, c13)) (h_x2 : ab_rv e X_x2 x2) (h_x3 : ab_rv e X_x3 x3) (h_x4 : ab_rv e X_x4 x4) (h_x5 : ab_rv e X_x5 x5) (h_x6 : ab_rv e X_x6 x6) (h_f0_piled : ab_rv e X_f0_piled f0_piled) (h_f0_clock : ab_rv e X_f0_clock f0_clock) (h_f0_groups : ab_rv e X_f0_groups f0_groups) (h_f0_wrong : ab_rv e X_f0_wrong f0_wrong) (g_a1 : ab_rg e X_a1 M_a1 F_a1 S_a1 N_a1 f0_op a1 a2 a3 a4 a5) (h_a6 : ab_ra e 12 X_a6 a6) (h_a7 : ab_ra e 12 X_a7 a7) (h_a8 : ab_ra e 12 X_a8 a8) (h_a9 : ab_ra e 12 X_a9 a9) (h_a10 : ab_ra e 12 X_a10 a10) (h_a11 : ab_ra e 12 X_a11 a11) (h_a12 : ab_ra e 12 X_a12 a12) (h_a13 : ab_ra e 12 X_a13 a13) : wX_giveBack_44 post x2 x3 x4 x5 x6 f0_op f0_piled f0_clock f0_groups f0_wrong a1 a2 a3 a4 a5 a6 a7 a8 a9 a10 a11 a12 a13 := by
  refine ab_vinS hb (by decide) h_x6 (fun hb => ?_)
  refine sz_put hb ?_ g_a1 h_f0_piled h_f0_clock h_f0_groups h_f0_wrong h_a6 h_a7 h_a8 h_a9 h_a10 h_a11 h_a12 h_a13 (ab_addS (ab_addS h_x2 (ab_mulS h_x3 h_x5)) h_x4) (ab_rdcS g_a1.1 h_x6)
  intro X_am611_12 M_am611_12 F_am611_12 S_am611_12 N_am611_12 X_f0_piled_6 X_f0_clock_7 X_f0_groups_8 X_f0_wrong_9 X_am616_27 X_am617_30 X_am618_33 X_am619_36 X_am6110_39 X_am6111_42 X_am6112_45 X_am6113_48 f0_op_5 f0_piled_6 f0_clock_7 f0_groups_8 f0_wrong_9 am611_12 am612_15 am613_18 am614_21 am615_24 am616_27 am617_30 am618_33 am619_36 am6110_39 am6111_42 am6112_45 am6113_48 hb g_am611_12 h_f0_piled_6 h_f0_clock_7 h_f0_groups_8 h_f0_wrong_9 h_am616_27 h_am617_30 h_am618_33 h_am619_36 h_am6110_39 h_am6111_42 h_am6112_45 h_am6113_48
  refine sz_put hb ?_ g_am611_12 h_f0_piled_6 h_f0_clock_7 h_f0_groups_8 h_f0_wrong_9 h_am616_27 h_am617_30 h_am618_33 h_am619_36 h_am6110_39 h_am6111_42 h_am6112_45 h_am6113_48 h_x6 h_x5
  intro X_am691_57 M_am691_57 F_am691_57 S_am691_57 N_am691_57 X_f0_piled_51 X_f0_clock_52 X_f0_groups_53 X_f0_wrong_54 X_am696_72 X_am697_75 X_am698_78 X_am699_81 X_am6910_84 X_am6911_87 X_am6912_90 X_am6913_93 f0_op_50 f0_piled_51 f0_clock_52 f0_groups_53 f0_wrong_54 am691_57 am692_60 am693_63 am694_66 am695_69 am696_72 am697_75 am698_78 am699_81 am6910_84 am6911_87 am6912_90 am6913_93 hb g_am691_57 h_f0_piled_51 h_f0_clock_52 h_f0_groups_53 h_f0_wrong_54 h_am696_72 h_am697_75 h_am698_78 h_am699_81 h_am6910_84 h_am6911_87 h_am6912_90 h_am6913_93
  exact hk hb g_am691_57 h_f0_piled_51 h_f0_clock_52 h_f0_groups_53 h_f0_wrong_54 h_am696_72 h_am697_75 h_am698_78 h_am699_81 h_am6910_84 h_am6911_87 h_am6912_90 h_am6913_93
noncomputable def bz_giveBack_3 (k : Nat → Nat → Nat → Nat → Nat → Nat → Nat → Nat → Nat → Nat → Nat → Nat → Nat → Nat → Nat → Nat → Nat → Bool) (X_x2 X_x3 X_x4 X_x5 X_f0_piled X_f0_clock X_f0_groups X_f0_wrong X_a1 M_a1 F_a1 S_a1 N_a1 X_a6 X_a7 X_a8 X_a9 X_a10 X_a11 X_a12 X_a13 : Nat) (n : Nat) : Nat → Bool :=
  Nat.rec (motive := fun _ => Nat → Bool) (fun _ => false) (fun _ ih => fun X_x6 => (ab_vin 340 X_x6 (ab_lt (ab_rdc X_a1 X_x6) 16 (bz_giveBack_44 k X_x2 X_x3 X_x4 X_x5 X_x6 X_f0_piled X_f0_clock X_f0_groups X_f0_wrong X_a1 M_a1 F_a1 S_a1 N_a1 X_a6 X_a7 X_a8 X_a9 X_a10 X_a11 X_a12 X_a13) (ab_vin 340 X_x6 (ab_le X_x5 (ab_rdc X_a1 X_x6) (bz_giveBack_44 k X_x2 X_x3 X_x4 X_x5 X_x6 X_f0_piled X_f0_clock X_f0_groups X_f0_wrong X_a1 M_a1 F_a1 S_a1 N_a1 X_a6 X_a7 X_a8 X_a9 X_a10 X_a11 X_a12 X_a13) (ab_vin 340 X_x6 (ab_str (ab_add (ab_add X_x2 (ab_mul X_x3 (ab_rdc X_a1 X_x6))) X_x4) (fun X_x6_97 => (ih X_x6_97))))))))) n
theorem sz_giveBack_3 {e : Nat → Int32} {post : St2 → Prop} {k : Nat → Nat → Nat → Nat → Nat → Nat → Nat → Nat → Nat → Nat → Nat → Nat → Nat → Nat → Nat → Nat → Nat → Bool} {X_x2 X_x3 X_x4 X_x5 X_f0_piled X_f0_clock X_f0_groups X_f0_wrong X_a1 M_a1 F_a1 S_a1 N_a1 X_a6 X_a7 X_a8 X_a9 X_a10 X_a11 X_a12 X_a13 : Nat} {x2 x3 x4 x5 f0_op f0_piled f0_clock f0_groups f0_wrong : Int32} {a1 a2 a3 a4 a5 a6 a7 a8 a9 a10 a11 a12 a13 : Nat → Int32} (hk : ∀ ⦃A M F S N P C G W B6 B7 B8 B9 B10 B11 B12 B13 : Nat⦄ ⦃op pi cl gr wr : Int32⦄ ⦃c1 c2 c3 c4 c5 c6 c7 c8 c9 c10 c11 c12 c13 : Nat → Int32⦄, k A M F S N P C G W B6 B7 B8 B9 B10 B11 B12 B13 = true → ab_rg e A M F S N op c1 c2 c3 c4 c5 → ab_rv e P pi → ab_rv e C cl → ab_rv e G gr → ab_rv e W wr → ab_ra e 12 B6 c6 → ab_ra e 12 B7 c7 → ab_ra e 12 B8 c8 → ab_ra e 12 B9 c9 → ab_ra e 12 B10 c10 → ab_ra e 12 B11 c11 → ab_ra e 12 B12 c12 → ab_ra e 12 B13 c13 → post (op, pi, cl, gr, wr, c1, c2, c3, c4, c5, c6, c7, c8, c9, c10, c11, c12, c13)) (h_x2 : ab_rv e X_x2 x2) (h_x3 : ab_rv e X_x3 x3) (h_x4 : ab_rv e X_x4 x4) (h_x5 : ab_rv e X_x5 x5) (h_f0_piled : ab_rv e X_f0_piled f0_piled) (h_f0_clock : ab_rv e X_f0_clock f0_clock) (h_f0_groups : ab_rv e X_f0_groups f0_groups) (h_f0_wrong : ab_rv e X_f0_wrong f0_wrong) (g_a1 : ab_rg e X_a1 M_a1 F_a1 S_a1 N_a1 f0_op a1 a2 a3 a4 a5) (h_a6 : ab_ra e 12 X_a6 a6) (h_a7 : ab_ra e 12 X_a7 a7) (h_a8 : ab_ra e 12 X_a8 a8) (h_a9 : ab_ra e 12 X_a9 a9) (h_a10 : ab_ra e 12 X_a10 a10) (h_a11 : ab_ra e 12 X_a11 a11) (h_a12 : ab_ra e 12 X_a12 a12) (h_a13 : ab_ra e 12 X_a13 a13) : ∀ (n : Nat) ⦃X_x6 : Nat⦄ ⦃x6 : Int32⦄, bz_giveBack_3 k X_x2 X_x3 X_x4 X_x5 X_f0_piled X_f0_clock X_f0_groups X_f0_wrong X_a1 M_a1 F_a1 S_a1 N_a1 X_a6 X_a7 X_a8 X_a9 X_a10 X_a11 X_a12 X_a13 n X_x6 = true → ab_rv e X_x6 x6 → wX_giveBack_3 post x2 x3 x4 x5 f0_op f0_piled f0_clock f0_groups f0_wrong a1 a2 a3 a4 a5 a6 a7 a8 a9 a10 a11 a12 a13 n x6 := by
  intro n
  induction n with
  | zero =>
    intro X_x6 x6 hb h_x6
    exact absurd (show false = true from hb) (by decide)
  | succ n ih =>
    intro X_x6 x6 hb h_x6
    refine ab_vinS hb (by decide) h_x6 (fun hb => ?_)
    refine ab_ltS hb (ab_rdcS g_a1.1 h_x6) ab_l0 (fun hb => ?_) (fun hb => ?_)
    · exact sz_giveBack_44 hb hk h_x2 h_x3 h_x4 h_x5 h_x6 h_f0_piled h_f0_clock h_f0_groups h_f0_wrong g_a1 h_a6 h_a7 h_a8 h_a9 h_a10 h_a11 h_a12 h_a13
    · refine ab_vinS hb (by decide) h_x6 (fun hb => ?_)
      refine ab_leS hb h_x5 (ab_rdcS g_a1.1 h_x6) (fun hb => ?_) (fun hb => ?_)
      · exact sz_giveBack_44 hb hk h_x2 h_x3 h_x4 h_x5 h_x6 h_f0_piled h_f0_clock h_f0_groups h_f0_wrong g_a1 h_a6 h_a7 h_a8 h_a9 h_a10 h_a11 h_a12 h_a13
      · refine ab_vinS hb (by decide) h_x6 (fun hb => ?_)
        refine ab_letS hb (ab_addS (ab_addS h_x2 (ab_mulS h_x3 (ab_rdcS g_a1.1 h_x6))) h_x4) ?_
        intro X_x6_97 x6_97 hb h_x6_97
        exact ih hb h_x6_97
noncomputable def bz_giveBack (k : Nat → Nat → Nat → Nat → Nat → Nat → Nat → Nat → Nat → Nat → Nat → Nat → Nat → Nat → Nat → Nat → Nat → Bool) (X_a1 M_a1 F_a1 S_a1 N_a1 X_f0_piled X_f0_clock X_f0_groups X_f0_wrong X_a6 X_a7 X_a8 X_a9 X_a10 X_a11 X_a12 X_a13 X_p0 X_p1 X_p2 X_p3 X_p4 : Nat) : Bool :=
  (bz_giveBack_3 k X_p1 X_p2 X_p3 X_p4 X_f0_piled X_f0_clock X_f0_groups X_f0_wrong X_a1 M_a1 F_a1 S_a1 N_a1 X_a6 X_a7 X_a8 X_a9 X_a10 X_a11 X_a12 X_a13 200 X_p0)
theorem sz_giveBack {e : Nat → Int32} {post : St2 → Prop} {k : Nat → Nat → Nat → Nat → Nat → Nat → Nat → Nat → Nat → Nat → Nat → Nat → Nat → Nat → Nat → Nat → Nat → Bool} {X_a1 M_a1 F_a1 S_a1 N_a1 X_f0_piled X_f0_clock X_f0_groups X_f0_wrong X_a6 X_a7 X_a8 X_a9 X_a10 X_a11 X_a12 X_a13 X_p0 X_p1 X_p2 X_p3 X_p4 : Nat} {f0_op f0_piled f0_clock f0_groups f0_wrong p0 p1 p2 p3 p4 : Int32} {a1 a2 a3 a4 a5 a6 a7 a8 a9 a10 a11 a12 a13 : Nat → Int32} (hb : bz_giveBack k X_a1 M_a1 F_a1 S_a1 N_a1 X_f0_piled X_f0_clock X_f0_groups X_f0_wrong X_a6 X_a7 X_a8 X_a9 X_a10 X_a11 X_a12 X_a13 X_p0 X_p1 X_p2 X_p3 X_p4 = true) (hk : ∀ ⦃A M F S N P C G W B6 B7 B8 B9 B10 B11 B12 B13 : Nat⦄ ⦃op pi cl gr wr : Int32⦄ ⦃c1 c2 c3 c4 c5 c6 c7 c8 c9 c10 c11 c12 c13 : Nat → Int32⦄, k A M F S N P C G W B6 B7 B8 B9 B10 B11 B12 B13 = true → ab_rg e A M F S N op c1 c2 c3 c4 c5 → ab_rv e P pi → ab_rv e C cl → ab_rv e G gr → ab_rv e W wr → ab_ra e 12 B6 c6 → ab_ra e 12 B7 c7 → ab_ra e 12 B8 c8 → ab_ra e 12 B9 c9 → ab_ra e 12 B10 c10 → ab_ra e 12 B11 c11 → ab_ra e 12 B12 c12 → ab_ra e 12 B13 c13 → post (op, pi, cl, gr, wr, c1, c2, c3, c4, c5, c6, c7, c8, c9, c10, c11, c12, c13)) (g_a1 : ab_rg e X_a1 M_a1 F_a1 S_a1 N_a1 f0_op a1 a2 a3 a4 a5) (h_f0_piled : ab_rv e X_f0_piled f0_piled) (h_f0_clock : ab_rv e X_f0_clock f0_clock) (h_f0_groups : ab_rv e X_f0_groups f0_groups) (h_f0_wrong : ab_rv e X_f0_wrong f0_wrong) (h_a6 : ab_ra e 12 X_a6 a6) (h_a7 : ab_ra e 12 X_a7 a7) (h_a8 : ab_ra e 12 X_a8 a8) (h_a9 : ab_ra e 12 X_a9 a9) (h_a10 : ab_ra e 12 X_a10 a10) (h_a11 : ab_ra e 12 X_a11 a11) (h_a12 : ab_ra e 12 X_a12 a12) (h_a13 : ab_ra e 12 X_a13 a13) (h_p0 : ab_rv e X_p0 p0) (h_p1 : ab_rv e X_p1 p1) (h_p2 : ab_rv e X_p2 p2) (h_p3 : ab_rv e X_p3 p3) (h_p4 : ab_rv e X_p4 p4) : wpX_giveBack post (f0_op, f0_piled, f0_clock, f0_groups, f0_wrong, a1, a2, a3, a4, a5, a6, a7, a8, a9, a10, a11, a12, a13) p0 p1 p2 p3 p4 := by
  exact ⟨200, sz_giveBack_3 hk h_p1 h_p2 h_p3 h_p4 h_f0_piled h_f0_clock h_f0_groups h_f0_wrong g_a1 h_a6 h_a7 h_a8 h_a9 h_a10 h_a11 h_a12 h_a13 200 hb h_p0⟩
noncomputable def bz_cutArrow (k : Nat → Nat → Nat → Nat → Nat → Nat → Nat → Nat → Nat → Nat → Nat → Nat → Nat → Nat → Nat → Nat → Nat → Bool) (X_a1 M_a1 F_a1 S_a1 N_a1 X_f0_piled X_f0_clock X_f0_groups X_f0_wrong X_a6 X_a7 X_a8 X_a9 X_a10 X_a11 X_a12 X_a13 X_p0 : Nat) : Bool :=
  (bz_arrowCell (fun X_r_1 => (bz_unchain (fun X_am81_10 M_am81_10 F_am81_10 S_am81_10 N_am81_10 X_f0_piled_4 X_f0_clock_5 X_f0_groups_6 X_f0_wrong_7 X_am86_25 X_am87_28 X_am88_31 X_am89_34 X_am810_37 X_am811_40 X_am812_43 X_am813_46 => (bz_unchain (fun X_am141_55 M_am141_55 F_am141_55 S_am141_55 N_am141_55 X_f0_piled_49 X_f0_clock_50 X_f0_groups_51 X_f0_wrong_52 X_am146_70 X_am147_73 X_am148_76 X_am149_79 X_am1410_82 X_am1411_85 X_am1412_88 X_am1413_91 => (ab_vin 340 (ab_add X_r_1 17) (bz_nodeAt (fun X_r_93 => (bz_add (fun X_am331_102 M_am331_102 F_am331_102 S_am331_102 N_am331_102 X_f0_piled_96 X_f0_clock_97 X_f0_groups_98 X_f0_wrong_99 X_am336_117 X_am337_120 X_am338_123 X_am339_126 X_am3310_129 X_am3311_132 X_am3312_135 X_am3313_138 => (ab_vin 340 (ab_add (ab_add X_r_1 17) 17) (bz_nodeAt (fun X_r_140 => (bz_add (fun X_am541_149 M_am541_149 F_am541_149 S_am541_149 N_am541_149 X_f0_piled_143 X_f0_clock_144 X_f0_groups_145 X_f0_wrong_146 X_am546_164 X_am547_167 X_am548_170 X_am549_173 X_am5410_176 X_am5411_179 X_am5412_182 X_am5413_185 => (bz_put (fun X_am621_194 M_am621_194 F_am621_194 S_am621_194 N_am621_194 X_f0_piled_188 X_f0_clock_189 X_f0_groups_190 X_f0_wrong_191 X_am626_209 X_am627_212 X_am628_215 X_am629_218 X_am6210_221 X_am6211_224 X_am6212_227 X_am6213_230 => (bz_giveBack (fun X_am731_239 M_am731_239 F_am731_239 S_am731_239 N_am731_239 X_f0_piled_233 X_f0_clock_234 X_f0_groups_235 X_f0_wrong_236 X_am736_254 X_am737_257 X_am738_260 X_am739_263 X_am7310_266 X_am7311_269 X_am7312_272 X_am7313_275 => (bz_add (fun X_am791_284 M_am791_284 F_am791_284 S_am791_284 N_am791_284 X_f0_piled_278 X_f0_clock_279 X_f0_groups_280 X_f0_wrong_281 X_am796_299 X_am797_302 X_am798_305 X_am799_308 X_am7910_311 X_am7911_314 X_am7912_317 X_am7913_320 => (k X_am791_284 M_am791_284 F_am791_284 S_am791_284 N_am791_284 X_f0_piled_278 X_f0_clock_279 X_f0_groups_280 X_f0_wrong_281 X_am796_299 X_am797_302 X_am798_305 X_am799_308 X_am7910_311 X_am7911_314 X_am7912_317 X_am7913_320)) X_am731_239 M_am731_239 F_am731_239 S_am731_239 N_am731_239 X_f0_piled_233 X_f0_clock_234 X_f0_groups_235 X_f0_wrong_236 X_am736_254 X_am737_257 X_am738_260 X_am739_263 X_am7310_266 X_am7311_269 X_am7312_272 X_am7313_275 19 15)) X_am621_194 M_am621_194 F_am621_194 S_am621_194 N_am621_194 X_f0_piled_188 X_f0_clock_189 X_f0_groups_190 X_f0_wrong_191 X_am626_209 X_am627_212 X_am628_215 X_am629_218 X_am6210_221 X_am6211_224 X_am6212_227 X_am6213_230 17 116 26 21 X_p0)) X_am541_149 M_am541_149 F_am541_149 S_am541_149 N_am541_149 X_f0_piled_143 X_f0_clock_144 X_f0_groups_145 X_f0_wrong_146 X_am546_164 X_am547_167 X_am548_170 X_am549_173 X_am5410_176 X_am5411_179 X_am5412_182 X_am5413_185 (ab_add X_r_1 16) 16)) X_am331_102 M_am331_102 F_am331_102 S_am331_102 N_am331_102 X_f0_piled_96 X_f0_clock_97 X_f0_groups_98 X_f0_wrong_99 X_am336_117 X_am337_120 X_am338_123 X_am339_126 X_am3310_129 X_am3311_132 X_am3312_135 X_am3313_138 (ab_add X_r_140 22) 15)) (ab_rdc X_am331_102 (ab_add (ab_add X_r_1 17) 17))))) X_am141_55 M_am141_55 F_am141_55 S_am141_55 N_am141_55 X_f0_piled_49 X_f0_clock_50 X_f0_groups_51 X_f0_wrong_52 X_am146_70 X_am147_73 X_am148_76 X_am149_79 X_am1410_82 X_am1411_85 X_am1412_88 X_am1413_91 (ab_add X_r_93 22) 15)) (ab_rdc X_am141_55 (ab_add X_r_1 17))))) X_am81_10 M_am81_10 F_am81_10 S_am81_10 N_am81_10 X_f0_piled_4 X_f0_clock_5 X_f0_groups_6 X_f0_wrong_7 X_am86_25 X_am87_28 X_am88_31 X_am89_34 X_am810_37 X_am811_40 X_am812_43 X_am813_46 X_p0 17)) X_a1 M_a1 F_a1 S_a1 N_a1 X_f0_piled X_f0_clock X_f0_groups X_f0_wrong X_a6 X_a7 X_a8 X_a9 X_a10 X_a11 X_a12 X_a13 X_p0 16)) X_p0)
theorem sz_cutArrow {e : Nat → Int32} {post : St2 → Prop} {k : Nat → Nat → Nat → Nat → Nat → Nat → Nat → Nat → Nat → Nat → Nat → Nat → Nat → Nat → Nat → Nat → Nat → Bool} {X_a1 M_a1 F_a1 S_a1 N_a1 X_f0_piled X_f0_clock X_f0_groups X_f0_wrong X_a6 X_a7 X_a8 X_a9 X_a10 X_a11 X_a12 X_a13 X_p0 : Nat} {f0_op f0_piled f0_clock f0_groups f0_wrong p0 : Int32} {a1 a2 a3 a4 a5 a6 a7 a8 a9 a10 a11 a12 a13 : Nat → Int32} (hb : bz_cutArrow k X_a1 M_a1 F_a1 S_a1 N_a1 X_f0_piled X_f0_clock X_f0_groups X_f0_wrong X_a6 X_a7 X_a8 X_a9 X_a10 X_a11 X_a12 X_a13 X_p0 = true) (hk : ∀ ⦃A M F S N P C G W B6 B7 B8 B9 B10 B11 B12 B13 : Nat⦄ ⦃op pi cl gr wr : Int32⦄ ⦃c1 c2 c3 c4 c5 c6 c7 c8 c9 c10 c11 c12 c13 : Nat → Int32⦄, k A M F S N P C G W B6 B7 B8 B9 B10 B11 B12 B13 = true → ab_rg e A M F S N op c1 c2 c3 c4 c5 → ab_rv e P pi → ab_rv e C cl → ab_rv e G gr → ab_rv e W wr → ab_ra e 12 B6 c6 → ab_ra e 12 B7 c7 → ab_ra e 12 B8 c8 → ab_ra e 12 B9 c9 → ab_ra e 12 B10 c10 → ab_ra e 12 B11 c11 → ab_ra e 12 B12 c12 → ab_ra e 12 B13 c13 → post (op, pi, cl, gr, wr, c1, c2, c3, c4, c5, c6, c7, c8, c9, c10, c11, c12, c13)) (g_a1 : ab_rg e X_a1 M_a1 F_a1 S_a1 N_a1 f0_op a1 a2 a3 a4 a5) (h_f0_piled : ab_rv e X_f0_piled f0_piled) (h_f0_clock : ab_rv e X_f0_clock f0_clock) (h_f0_groups : ab_rv e X_f0_groups f0_groups) (h_f0_wrong : ab_rv e X_f0_wrong f0_wrong) (h_a6 : ab_ra e 12 X_a6 a6) (h_a7 : ab_ra e 12 X_a7 a7) (h_a8 : ab_ra e 12 X_a8 a8) (h_a9 : ab_ra e 12 X_a9 a9) (h_a10 : ab_ra e 12 X_a10 a10) (h_a11 : ab_ra e 12 X_a11 a11) (h_a12 : ab_ra e 12 X_a12 a12) (h_a13 : ab_ra e 12 X_a13 a13) (h_p0 : ab_rv e X_p0 p0) : wpX_cutArrow post (f0_op, f0_piled, f0_clock, f0_groups, f0_wrong, a1, a2, a3, a4, a5, a6, a7, a8, a9, a10, a11, a12, a13) p0 := by
  unfold wpX_cutArrow
  refine sz_arrowCell hb ?_ h_p0
  intro X_r_1 r_1 hb h_r_1
  refine sz_unchain hb ?_ g_a1 h_f0_piled h_f0_clock h_f0_groups h_f0_wrong h_a6 h_a7 h_a8 h_a9 h_a10 h_a11 h_a12 h_a13 h_p0 ab_l0
  intro X_am81_10 M_am81_10 F_am81_10 S_am81_10 N_am81_10 X_f0_piled_4 X_f0_clock_5 X_f0_groups_6 X_f0_wrong_7 X_am86_25 X_am87_28 X_am88_31 X_am89_34 X_am810_37 X_am811_40 X_am812_43 X_am813_46 f0_op_3 f0_piled_4 f0_clock_5 f0_groups_6 f0_wrong_7 am81_10 am82_13 am83_16 am84_19 am85_22 am86_25 am87_28 am88_31 am89_34 am810_37 am811_40 am812_43 am813_46 hb g_am81_10 h_f0_piled_4 h_f0_clock_5 h_f0_groups_6 h_f0_wrong_7 h_am86_25 h_am87_28 h_am88_31 h_am89_34 h_am810_37 h_am811_40 h_am812_43 h_am813_46
  refine sz_unchain hb ?_ g_am81_10 h_f0_piled_4 h_f0_clock_5 h_f0_groups_6 h_f0_wrong_7 h_am86_25 h_am87_28 h_am88_31 h_am89_34 h_am810_37 h_am811_40 h_am812_43 h_am813_46 h_p0 ab_l1
  intro X_am141_55 M_am141_55 F_am141_55 S_am141_55 N_am141_55 X_f0_piled_49 X_f0_clock_50 X_f0_groups_51 X_f0_wrong_52 X_am146_70 X_am147_73 X_am148_76 X_am149_79 X_am1410_82 X_am1411_85 X_am1412_88 X_am1413_91 f0_op_48 f0_piled_49 f0_clock_50 f0_groups_51 f0_wrong_52 am141_55 am142_58 am143_61 am144_64 am145_67 am146_70 am147_73 am148_76 am149_79 am1410_82 am1411_85 am1412_88 am1413_91 hb g_am141_55 h_f0_piled_49 h_f0_clock_50 h_f0_groups_51 h_f0_wrong_52 h_am146_70 h_am147_73 h_am148_76 h_am149_79 h_am1410_82 h_am1411_85 h_am1412_88 h_am1413_91
  refine ab_vinS hb (by decide) (ab_addS h_r_1 ab_l1) (fun hb => ?_)
  refine sz_nodeAt hb ?_ (ab_rdcS g_am141_55.1 (ab_addS h_r_1 ab_l1))
  intro X_r_93 r_93 hb h_r_93
  refine sz_add hb ?_ g_am141_55 h_f0_piled_49 h_f0_clock_50 h_f0_groups_51 h_f0_wrong_52 h_am146_70 h_am147_73 h_am148_76 h_am149_79 h_am1410_82 h_am1411_85 h_am1412_88 h_am1413_91 (ab_addS h_r_93 ab_l6) ab_m1
  intro X_am331_102 M_am331_102 F_am331_102 S_am331_102 N_am331_102 X_f0_piled_96 X_f0_clock_97 X_f0_groups_98 X_f0_wrong_99 X_am336_117 X_am337_120 X_am338_123 X_am339_126 X_am3310_129 X_am3311_132 X_am3312_135 X_am3313_138 f0_op_95 f0_piled_96 f0_clock_97 f0_groups_98 f0_wrong_99 am331_102 am332_105 am333_108 am334_111 am335_114 am336_117 am337_120 am338_123 am339_126 am3310_129 am3311_132 am3312_135 am3313_138 hb g_am331_102 h_f0_piled_96 h_f0_clock_97 h_f0_groups_98 h_f0_wrong_99 h_am336_117 h_am337_120 h_am338_123 h_am339_126 h_am3310_129 h_am3311_132 h_am3312_135 h_am3313_138
  refine ab_vinS hb (by decide) (ab_addS (ab_addS h_r_1 ab_l1) ab_l1) (fun hb => ?_)
  refine sz_nodeAt hb ?_ (ab_rdcS g_am331_102.1 (ab_addS (ab_addS h_r_1 ab_l1) ab_l1))
  intro X_r_140 r_140 hb h_r_140
  refine sz_add hb ?_ g_am331_102 h_f0_piled_96 h_f0_clock_97 h_f0_groups_98 h_f0_wrong_99 h_am336_117 h_am337_120 h_am338_123 h_am339_126 h_am3310_129 h_am3311_132 h_am3312_135 h_am3313_138 (ab_addS h_r_140 ab_l6) ab_m1
  intro X_am541_149 M_am541_149 F_am541_149 S_am541_149 N_am541_149 X_f0_piled_143 X_f0_clock_144 X_f0_groups_145 X_f0_wrong_146 X_am546_164 X_am547_167 X_am548_170 X_am549_173 X_am5410_176 X_am5411_179 X_am5412_182 X_am5413_185 f0_op_142 f0_piled_143 f0_clock_144 f0_groups_145 f0_wrong_146 am541_149 am542_152 am543_155 am544_158 am545_161 am546_164 am547_167 am548_170 am549_173 am5410_176 am5411_179 am5412_182 am5413_185 hb g_am541_149 h_f0_piled_143 h_f0_clock_144 h_f0_groups_145 h_f0_wrong_146 h_am546_164 h_am547_167 h_am548_170 h_am549_173 h_am5410_176 h_am5411_179 h_am5412_182 h_am5413_185
  refine sz_put hb ?_ g_am541_149 h_f0_piled_143 h_f0_clock_144 h_f0_groups_145 h_f0_wrong_146 h_am546_164 h_am547_167 h_am548_170 h_am549_173 h_am5410_176 h_am5411_179 h_am5412_182 h_am5413_185 (ab_addS h_r_1 ab_l0) ab_l0
  intro X_am621_194 M_am621_194 F_am621_194 S_am621_194 N_am621_194 X_f0_piled_188 X_f0_clock_189 X_f0_groups_190 X_f0_wrong_191 X_am626_209 X_am627_212 X_am628_215 X_am629_218 X_am6210_221 X_am6211_224 X_am6212_227 X_am6213_230 f0_op_187 f0_piled_188 f0_clock_189 f0_groups_190 f0_wrong_191 am621_194 am622_197 am623_200 am624_203 am625_206 am626_209 am627_212 am628_215 am629_218 am6210_221 am6211_224 am6212_227 am6213_230 hb g_am621_194 h_f0_piled_188 h_f0_clock_189 h_f0_groups_190 h_f0_wrong_191 h_am626_209 h_am627_212 h_am628_215 h_am629_218 h_am6210_221 h_am6211_224 h_am6212_227 h_am6213_230
  refine sz_giveBack hb ?_ g_am621_194 h_f0_piled_188 h_f0_clock_189 h_f0_groups_190 h_f0_wrong_191 h_am626_209 h_am627_212 h_am628_215 h_am629_218 h_am6210_221 h_am6211_224 h_am6212_227 h_am6213_230 ab_l1 ab_l100 ab_l10 ab_l5 h_p0
  intro X_am731_239 M_am731_239 F_am731_239 S_am731_239 N_am731_239 X_f0_piled_233 X_f0_clock_234 X_f0_groups_235 X_f0_wrong_236 X_am736_254 X_am737_257 X_am738_260 X_am739_263 X_am7310_266 X_am7311_269 X_am7312_272 X_am7313_275 f0_op_232 f0_piled_233 f0_clock_234 f0_groups_235 f0_wrong_236 am731_239 am732_242 am733_245 am734_248 am735_251 am736_254 am737_257 am738_260 am739_263 am7310_266 am7311_269 am7312_272 am7313_275 hb g_am731_239 h_f0_piled_233 h_f0_clock_234 h_f0_groups_235 h_f0_wrong_236 h_am736_254 h_am737_257 h_am738_260 h_am739_263 h_am7310_266 h_am7311_269 h_am7312_272 h_am7313_275
  refine sz_add hb ?_ g_am731_239 h_f0_piled_233 h_f0_clock_234 h_f0_groups_235 h_f0_wrong_236 h_am736_254 h_am737_257 h_am738_260 h_am739_263 h_am7310_266 h_am7311_269 h_am7312_272 h_am7313_275 ab_l3 ab_m1
  intro X_am791_284 M_am791_284 F_am791_284 S_am791_284 N_am791_284 X_f0_piled_278 X_f0_clock_279 X_f0_groups_280 X_f0_wrong_281 X_am796_299 X_am797_302 X_am798_305 X_am799_308 X_am7910_311 X_am7911_314 X_am7912_317 X_am7913_320 f0_op_277 f0_piled_278 f0_clock_279 f0_groups_280 f0_wrong_281 am791_284 am792_287 am793_290 am794_293 am795_296 am796_299 am797_302 am798_305 am799_308 am7910_311 am7911_314 am7912_317 am7913_320 hb g_am791_284 h_f0_piled_278 h_f0_clock_279 h_f0_groups_280 h_f0_wrong_281 h_am796_299 h_am797_302 h_am798_305 h_am799_308 h_am7910_311 h_am7911_314 h_am7912_317 h_am7913_320
  exact hk hb g_am791_284 h_f0_piled_278 h_f0_clock_279 h_f0_groups_280 h_f0_wrong_281 h_am796_299 h_am797_302 h_am798_305 h_am799_308 h_am7910_311 h_am7911_314 h_am7912_317 h_am7913_320
noncomputable def bz_cut (k : Nat → Nat → Nat → Nat → Nat → Nat → Nat → Nat → Nat → Nat → Nat → Nat → Nat → Nat → Nat → Nat → Nat → Nat → Bool) (X_a1 M_a1 F_a1 S_a1 N_a1 X_f0_piled X_f0_clock X_f0_groups X_f0_wrong X_a6 X_a7 X_a8 X_a9 X_a10 X_a11 X_a12 X_a13 X_p0 : Nat) : Bool :=
  (bz_isArrow (fun X_r_1 => (ab_eq X_r_1 16 (k 15 X_a1 M_a1 F_a1 S_a1 N_a1 X_f0_piled X_f0_clock X_f0_groups X_f0_wrong X_a6 X_a7 X_a8 X_a9 X_a10 X_a11 X_a12 X_a13) (bz_cutArrow (fun X_am121_11 M_am121_11 F_am121_11 S_am121_11 N_am121_11 X_f0_piled_5 X_f0_clock_6 X_f0_groups_7 X_f0_wrong_8 X_am126_26 X_am127_29 X_am128_32 X_am129_35 X_am1210_38 X_am1211_41 X_am1212_44 X_am1213_47 => (ab_str (ab_get X_am121_11 3) (fun R => k R X_am121_11 M_am121_11 F_am121_11 S_am121_11 N_am121_11 X_f0_piled_5 X_f0_clock_6 X_f0_groups_7 X_f0_wrong_8 X_am126_26 X_am127_29 X_am128_32 X_am129_35 X_am1210_38 X_am1211_41 X_am1212_44 X_am1213_47))) X_a1 M_a1 F_a1 S_a1 N_a1 X_f0_piled X_f0_clock X_f0_groups X_f0_wrong X_a6 X_a7 X_a8 X_a9 X_a10 X_a11 X_a12 X_a13 X_p0))) X_a1 M_a1 F_a1 S_a1 N_a1 X_f0_piled X_f0_clock X_f0_groups X_f0_wrong X_a6 X_a7 X_a8 X_a9 X_a10 X_a11 X_a12 X_a13 X_p0)
theorem sz_cut {e : Nat → Int32} {post : Int32 → St2 → Prop} {k : Nat → Nat → Nat → Nat → Nat → Nat → Nat → Nat → Nat → Nat → Nat → Nat → Nat → Nat → Nat → Nat → Nat → Nat → Bool} {X_a1 M_a1 F_a1 S_a1 N_a1 X_f0_piled X_f0_clock X_f0_groups X_f0_wrong X_a6 X_a7 X_a8 X_a9 X_a10 X_a11 X_a12 X_a13 X_p0 : Nat} {f0_op f0_piled f0_clock f0_groups f0_wrong p0 : Int32} {a1 a2 a3 a4 a5 a6 a7 a8 a9 a10 a11 a12 a13 : Nat → Int32} (hb : bz_cut k X_a1 M_a1 F_a1 S_a1 N_a1 X_f0_piled X_f0_clock X_f0_groups X_f0_wrong X_a6 X_a7 X_a8 X_a9 X_a10 X_a11 X_a12 X_a13 X_p0 = true) (hk : ∀ ⦃R A M F S N P C G W B6 B7 B8 B9 B10 B11 B12 B13 : Nat⦄ ⦃r op pi cl gr wr : Int32⦄ ⦃c1 c2 c3 c4 c5 c6 c7 c8 c9 c10 c11 c12 c13 : Nat → Int32⦄, k R A M F S N P C G W B6 B7 B8 B9 B10 B11 B12 B13 = true → ab_rv e R r → ab_rg e A M F S N op c1 c2 c3 c4 c5 → ab_rv e P pi → ab_rv e C cl → ab_rv e G gr → ab_rv e W wr → ab_ra e 12 B6 c6 → ab_ra e 12 B7 c7 → ab_ra e 12 B8 c8 → ab_ra e 12 B9 c9 → ab_ra e 12 B10 c10 → ab_ra e 12 B11 c11 → ab_ra e 12 B12 c12 → ab_ra e 12 B13 c13 → post r (op, pi, cl, gr, wr, c1, c2, c3, c4, c5, c6, c7, c8, c9, c10, c11, c12, c13)) (g_a1 : ab_rg e X_a1 M_a1 F_a1 S_a1 N_a1 f0_op a1 a2 a3 a4 a5) (h_f0_piled : ab_rv e X_f0_piled f0_piled) (h_f0_clock : ab_rv e X_f0_clock f0_clock) (h_f0_groups : ab_rv e X_f0_groups f0_groups) (h_f0_wrong : ab_rv e X_f0_wrong f0_wrong) (h_a6 : ab_ra e 12 X_a6 a6) (h_a7 : ab_ra e 12 X_a7 a7) (h_a8 : ab_ra e 12 X_a8 a8) (h_a9 : ab_ra e 12 X_a9 a9) (h_a10 : ab_ra e 12 X_a10 a10) (h_a11 : ab_ra e 12 X_a11 a11) (h_a12 : ab_ra e 12 X_a12 a12) (h_a13 : ab_ra e 12 X_a13 a13) (h_p0 : ab_rv e X_p0 p0) : wpX_cut post (f0_op, f0_piled, f0_clock, f0_groups, f0_wrong, a1, a2, a3, a4, a5, a6, a7, a8, a9, a10, a11, a12, a13) p0 := by
  unfold wpX_cut
  refine sz_isArrow hb ?_ g_a1 h_f0_piled h_f0_clock h_f0_groups h_f0_wrong h_a6 h_a7 h_a8 h_a9 h_a10 h_a11 h_a12 h_a13 h_p0
  intro X_r_1 r_1 hb h_r_1
  refine ab_eqS hb h_r_1 ab_l0 (fun hb => ?_) (fun hb => ?_)
  · exact hk hb ab_m1 g_a1 h_f0_piled h_f0_clock h_f0_groups h_f0_wrong h_a6 h_a7 h_a8 h_a9 h_a10 h_a11 h_a12 h_a13
  · refine sz_cutArrow hb ?_ g_a1 h_f0_piled h_f0_clock h_f0_groups h_f0_wrong h_a6 h_a7 h_a8 h_a9 h_a10 h_a11 h_a12 h_a13 h_p0
    intro X_am121_11 M_am121_11 F_am121_11 S_am121_11 N_am121_11 X_f0_piled_5 X_f0_clock_6 X_f0_groups_7 X_f0_wrong_8 X_am126_26 X_am127_29 X_am128_32 X_am129_35 X_am1210_38 X_am1211_41 X_am1212_44 X_am1213_47 f0_op_4 f0_piled_5 f0_clock_6 f0_groups_7 f0_wrong_8 am121_11 am122_14 am123_17 am124_20 am125_23 am126_26 am127_29 am128_32 am129_35 am1210_38 am1211_41 am1212_44 am1213_47 hb g_am121_11 h_f0_piled_5 h_f0_clock_6 h_f0_groups_7 h_f0_wrong_8 h_am126_26 h_am127_29 h_am128_32 h_am129_35 h_am1210_38 h_am1211_41 h_am1212_44 h_am1213_47
    have hb := ab_strS hb
    exact hk hb (ab_rdk 3 g_am121_11.1 (by decide)) g_am121_11 h_f0_piled_5 h_f0_clock_6 h_f0_groups_7 h_f0_wrong_8 h_am126_26 h_am127_29 h_am128_32 h_am129_35 h_am1210_38 h_am1211_41 h_am1212_44 h_am1213_47
noncomputable def bz_drop_46 (k : Nat → Nat → Nat → Nat → Nat → Nat → Nat → Nat → Nat → Nat → Nat → Nat → Nat → Nat → Nat → Nat → Nat → Nat → Bool) (J40 : Nat → Nat → Nat → Nat → Nat → Nat → Nat → Nat → Nat → Nat → Nat → Nat → Nat → Nat → Nat → Nat → Nat → Nat → Nat → Bool) (X_x1 X_x3 X_x5 : Nat) (n : Nat) : Nat → Nat → Nat → Nat → Nat → Nat → Nat → Nat → Nat → Nat → Nat → Nat → Nat → Nat → Nat → Nat → Nat → Nat → Bool :=
  Nat.rec (motive := fun _ => Nat → Nat → Nat → Nat → Nat → Nat → Nat → Nat → Nat → Nat → Nat → Nat → Nat → Nat → Nat → Nat → Nat → Nat → Bool) (fun _ _ _ _ _ _ _ _ _ _ _ _ _ _ _ _ _ _ => false) (fun _ ih => fun X_x4 X_f0_piled X_f0_clock X_f0_groups X_f0_wrong X_a1 M_a1 F_a1 S_a1 N_a1 X_a6 X_a7 X_a8 X_a9 X_a10 X_a11 X_a12 X_a13 => (ab_vin 340 (ab_add (ab_add X_x3 19) X_x5) (ab_lt (ab_rdc X_a1 (ab_add (ab_add X_x3 19) X_x5)) 16 (ab_str (ab_add X_x5 17) (fun X_x5_143 => (J40 X_x4 X_x5_143 X_f0_piled X_f0_clock X_f0_groups X_f0_wrong X_a1 M_a1 F_a1 S_a1 N_a1 X_a6 X_a7 X_a8 X_a9 X_a10 X_a11 X_a12 X_a13))) (ab_vin 340 (ab_add (ab_add X_x3 19) X_x5) (bz_cutArrow (fun X_am721_153 M_am721_153 F_am721_153 S_am721_153 N_am721_153 X_f0_piled_147 X_f0_clock_148 X_f0_groups_149 X_f0_wrong_150 X_am726_168 X_am727_171 X_am728_174 X_am729_177 X_am7210_180 X_am7211_183 X_am7212_186 X_am7213_189 => (ab_str (ab_add X_x4 17) (fun X_x4_190 => (ih X_x4_190 X_f0_piled_147 X_f0_clock_148 X_f0_groups_149 X_f0_wrong_150 X_am721_153 M_am721_153 F_am721_153 S_am721_153 N_am721_153 X_am726_168 X_am727_171 X_am728_174 X_am729_177 X_am7210_180 X_am7211_183 X_am7212_186 X_am7213_189)))) X_a1 M_a1 F_a1 S_a1 N_a1 X_f0_piled X_f0_clock X_f0_groups X_f0_wrong X_a6 X_a7 X_a8 X_a9 X_a10 X_a11 X_a12 X_a13 (ab_rdc X_a1 (ab_add (ab_add X_x3 19) X_x5))))))) n
theorem sz_drop_46 {e : Nat → Int32} {post : Int32 → St2 → Prop} {k : Nat → Nat → Nat → Nat → Nat → Nat → Nat → Nat → Nat → Nat → Nat → Nat → Nat → Nat → Nat → Nat → Nat → Nat → Bool} {J40 : Nat → Nat → Nat → Nat → Nat → Nat → Nat → Nat → Nat → Nat → Nat → Nat → Nat → Nat → Nat → Nat → Nat → Nat → Nat → Bool} {CJ40 : Int32 → Int32 → Int32 → Int32 → Int32 → Int32 → Int32 → (Nat → Int32) → (Nat → Int32) → (Nat → Int32) → (Nat → Int32) → (Nat → Int32) → (Nat → Int32) → (Nat → Int32) → (Nat → Int32) → (Nat → Int32) → (Nat → Int32) → (Nat → Int32) → (Nat → Int32) → (Nat → Int32) → Prop} {X_x1 X_x3 X_x5 : Nat} {x1 x3 x5 : Int32} (hk : ∀ ⦃R A M F S N P C G W B6 B7 B8 B9 B10 B11 B12 B13 : Nat⦄ ⦃r op pi cl gr wr : Int32⦄ ⦃c1 c2 c3 c4 c5 c6 c7 c8 c9 c10 c11 c12 c13 : Nat → Int32⦄, k R A M F S N P C G W B6 B7 B8 B9 B10 B11 B12 B13 = true → ab_rv e R r → ab_rg e A M F S N op c1 c2 c3 c4 c5 → ab_rv e P pi → ab_rv e C cl → ab_rv e G gr → ab_rv e W wr → ab_ra e 12 B6 c6 → ab_ra e 12 B7 c7 → ab_ra e 12 B8 c8 → ab_ra e 12 B9 c9 → ab_ra e 12 B10 c10 → ab_ra e 12 B11 c11 → ab_ra e 12 B12 c12 → ab_ra e 12 B13 c13 → post r (op, pi, cl, gr, wr, c1, c2, c3, c4, c5, c6, c7, c8, c9, c10, c11, c12, c13)) (hJ40 : ∀ ⦃X_x4 X_x5 X_f0_piled X_f0_clock X_f0_groups X_f0_wrong X_a1 M_a1 F_a1 S_a1 N_a1 X_a6 X_a7 X_a8 X_a9 X_a10 X_a11 X_a12 X_a13 : Nat⦄ ⦃x4 x5 f0_op f0_piled f0_clock f0_groups f0_wrong : Int32⦄ ⦃a1 a2 a3 a4 a5 a6 a7 a8 a9 a10 a11 a12 a13 : Nat → Int32⦄, J40 X_x4 X_x5 X_f0_piled X_f0_clock X_f0_groups X_f0_wrong X_a1 M_a1 F_a1 S_a1 N_a1 X_a6 X_a7 X_a8 X_a9 X_a10 X_a11 X_a12 X_a13 = true → ab_rv e X_x4 x4 → ab_rv e X_x5 x5 → ab_rv e X_f0_piled f0_piled → ab_rv e X_f0_clock f0_clock → ab_rv e X_f0_groups f0_groups → ab_rv e X_f0_wrong f0_wrong → ab_rg e X_a1 M_a1 F_a1 S_a1 N_a1 f0_op a1 a2 a3 a4 a5 → ab_ra e 12 X_a6 a6 → ab_ra e 12 X_a7 a7 → ab_ra e 12 X_a8 a8 → ab_ra e 12 X_a9 a9 → ab_ra e 12 X_a10 a10 → ab_ra e 12 X_a11 a11 → ab_ra e 12 X_a12 a12 → ab_ra e 12 X_a13 a13 → CJ40 x4 x5 f0_op f0_piled f0_clock f0_groups f0_wrong a1 a2 a3 a4 a5 a6 a7 a8 a9 a10 a11 a12 a13) (h_x1 : ab_rv e X_x1 x1) (h_x3 : ab_rv e X_x3 x3) (h_x5 : ab_rv e X_x5 x5) : ∀ (n : Nat) ⦃X_x4 X_f0_piled X_f0_clock X_f0_groups X_f0_wrong X_a1 M_a1 F_a1 S_a1 N_a1 X_a6 X_a7 X_a8 X_a9 X_a10 X_a11 X_a12 X_a13 : Nat⦄ ⦃x4 f0_op f0_piled f0_clock f0_groups f0_wrong : Int32⦄ ⦃a1 a2 a3 a4 a5 a6 a7 a8 a9 a10 a11 a12 a13 : Nat → Int32⦄, bz_drop_46 k J40 X_x1 X_x3 X_x5 n X_x4 X_f0_piled X_f0_clock X_f0_groups X_f0_wrong X_a1 M_a1 F_a1 S_a1 N_a1 X_a6 X_a7 X_a8 X_a9 X_a10 X_a11 X_a12 X_a13 = true → ab_rv e X_x4 x4 → ab_rv e X_f0_piled f0_piled → ab_rv e X_f0_clock f0_clock → ab_rv e X_f0_groups f0_groups → ab_rv e X_f0_wrong f0_wrong → ab_rg e X_a1 M_a1 F_a1 S_a1 N_a1 f0_op a1 a2 a3 a4 a5 → ab_ra e 12 X_a6 a6 → ab_ra e 12 X_a7 a7 → ab_ra e 12 X_a8 a8 → ab_ra e 12 X_a9 a9 → ab_ra e 12 X_a10 a10 → ab_ra e 12 X_a11 a11 → ab_ra e 12 X_a12 a12 → ab_ra e 12 X_a13 a13 → wX_drop_46 post CJ40 x1 x3 x5 n x4 f0_op f0_piled f0_clock f0_groups f0_wrong a1 a2 a3 a4 a5 a6 a7 a8 a9 a10 a11 a12 a13 := by
  intro n
  induction n with
  | zero =>
    intro X_x4 X_f0_piled X_f0_clock X_f0_groups X_f0_wrong X_a1 M_a1 F_a1 S_a1 N_a1 X_a6 X_a7 X_a8 X_a9 X_a10 X_a11 X_a12 X_a13 x4 f0_op f0_piled f0_clock f0_groups f0_wrong a1 a2 a3 a4 a5 a6 a7 a8 a9 a10 a11 a12 a13 hb h_x4 h_f0_piled h_f0_clock h_f0_groups h_f0_wrong g_a1 h_a6 h_a7 h_a8 h_a9 h_a10 h_a11 h_a12 h_a13
    exact absurd (show false = true from hb) (by decide)
  | succ n ih =>
    intro X_x4 X_f0_piled X_f0_clock X_f0_groups X_f0_wrong X_a1 M_a1 F_a1 S_a1 N_a1 X_a6 X_a7 X_a8 X_a9 X_a10 X_a11 X_a12 X_a13 x4 f0_op f0_piled f0_clock f0_groups f0_wrong a1 a2 a3 a4 a5 a6 a7 a8 a9 a10 a11 a12 a13 hb h_x4 h_f0_piled h_f0_clock h_f0_groups h_f0_wrong g_a1 h_a6 h_a7 h_a8 h_a9 h_a10 h_a11 h_a12 h_a13
    refine ab_vinS hb (by decide) (ab_addS (ab_addS h_x3 ab_l3) h_x5) (fun hb => ?_)
    refine ab_ltS hb (ab_rdcS g_a1.1 (ab_addS (ab_addS h_x3 ab_l3) h_x5)) ab_l0 (fun hb => ?_) (fun hb => ?_)
    · refine ab_letS hb (ab_addS h_x5 ab_l1) ?_
      intro X_x5_143 x5_143 hb h_x5_143
      exact hJ40 hb h_x4 h_x5_143 h_f0_piled h_f0_clock h_f0_groups h_f0_wrong g_a1 h_a6 h_a7 h_a8 h_a9 h_a10 h_a11 h_a12 h_a13
    · refine ab_vinS hb (by decide) (ab_addS (ab_addS h_x3 ab_l3) h_x5) (fun hb => ?_)
      refine sz_cutArrow hb ?_ g_a1 h_f0_piled h_f0_clock h_f0_groups h_f0_wrong h_a6 h_a7 h_a8 h_a9 h_a10 h_a11 h_a12 h_a13 (ab_rdcS g_a1.1 (ab_addS (ab_addS h_x3 ab_l3) h_x5))
      intro X_am721_153 M_am721_153 F_am721_153 S_am721_153 N_am721_153 X_f0_piled_147 X_f0_clock_148 X_f0_groups_149 X_f0_wrong_150 X_am726_168 X_am727_171 X_am728_174 X_am729_177 X_am7210_180 X_am7211_183 X_am7212_186 X_am7213_189 f0_op_146 f0_piled_147 f0_clock_148 f0_groups_149 f0_wrong_150 am721_153 am722_156 am723_159 am724_162 am725_165 am726_168 am727_171 am728_174 am729_177 am7210_180 am7211_183 am7212_186 am7213_189 hb g_am721_153 h_f0_piled_147 h_f0_clock_148 h_f0_groups_149 h_f0_wrong_150 h_am726_168 h_am727_171 h_am728_174 h_am729_177 h_am7210_180 h_am7211_183 h_am7212_186 h_am7213_189
      refine ab_letS hb (ab_addS h_x4 ab_l1) ?_
      intro X_x4_190 x4_190 hb h_x4_190
      exact ih hb h_x4_190 h_f0_piled_147 h_f0_clock_148 h_f0_groups_149 h_f0_wrong_150 g_am721_153 h_am726_168 h_am727_171 h_am728_174 h_am729_177 h_am7210_180 h_am7211_183 h_am7212_186 h_am7213_189
noncomputable def bz_drop_40 (k : Nat → Nat → Nat → Nat → Nat → Nat → Nat → Nat → Nat → Nat → Nat → Nat → Nat → Nat → Nat → Nat → Nat → Nat → Bool) (X_x1 X_x3 : Nat) (n : Nat) : Nat → Nat → Nat → Nat → Nat → Nat → Nat → Nat → Nat → Nat → Nat → Nat → Nat → Nat → Nat → Nat → Nat → Nat → Nat → Bool :=
  Nat.rec (motive := fun _ => Nat → Nat → Nat → Nat → Nat → Nat → Nat → Nat → Nat → Nat → Nat → Nat → Nat → Nat → Nat → Nat → Nat → Nat → Nat → Bool) (fun _ _ _ _ _ _ _ _ _ _ _ _ _ _ _ _ _ _ _ => false) (fun _ ih => fun X_x4 X_x5 X_f0_piled X_f0_clock X_f0_groups X_f0_wrong X_a1 M_a1 F_a1 S_a1 N_a1 X_a6 X_a7 X_a8 X_a9 X_a10 X_a11 X_a12 X_a13 => (ab_le 18 X_x5 (bz_removeFromRow (fun X_am891_14 M_am891_14 F_am891_14 S_am891_14 N_am891_14 X_f0_piled_8 X_f0_clock_9 X_f0_groups_10 X_f0_wrong_11 X_am896_29 X_am897_32 X_am898_35 X_am899_38 X_am8910_41 X_am8911_44 X_am8912_47 X_am8913_50 => (bz_put (fun X_am971_59 M_am971_59 F_am971_59 S_am971_59 N_am971_59 X_f0_piled_53 X_f0_clock_54 X_f0_groups_55 X_f0_wrong_56 X_am976_74 X_am977_77 X_am978_80 X_am979_83 X_am9710_86 X_am9711_89 X_am9712_92 X_am9713_95 => (bz_giveBack (fun X_am1081_104 M_am1081_104 F_am1081_104 S_am1081_104 N_am1081_104 X_f0_piled_98 X_f0_clock_99 X_f0_groups_100 X_f0_wrong_101 X_am1086_119 X_am1087_122 X_am1088_125 X_am1089_128 X_am10810_131 X_am10811_134 X_am10812_137 X_am10813_140 => (k X_x4 X_am1081_104 M_am1081_104 F_am1081_104 S_am1081_104 N_am1081_104 X_f0_piled_98 X_f0_clock_99 X_f0_groups_100 X_f0_wrong_101 X_am1086_119 X_am1087_122 X_am1088_125 X_am1089_128 X_am10810_131 X_am10811_134 X_am10812_137 X_am10813_140)) X_am971_59 M_am971_59 F_am971_59 S_am971_59 N_am971_59 X_f0_piled_53 X_f0_clock_54 X_f0_groups_55 X_f0_wrong_56 X_am976_74 X_am977_77 X_am978_80 X_am979_83 X_am9710_86 X_am9711_89 X_am9712_92 X_am9713_95 16 32 23 21 X_x1)) X_am891_14 M_am891_14 F_am891_14 S_am891_14 N_am891_14 X_f0_piled_8 X_f0_clock_9 X_f0_groups_10 X_f0_wrong_11 X_am896_29 X_am897_32 X_am898_35 X_am899_38 X_am8910_41 X_am8911_44 X_am8912_47 X_am8913_50 (ab_add X_x3 16) 16)) X_a1 M_a1 F_a1 S_a1 N_a1 X_f0_piled X_f0_clock X_f0_groups X_f0_wrong X_a6 X_a7 X_a8 X_a9 X_a10 X_a11 X_a12 X_a13 X_x1) (bz_drop_46 k ih X_x1 X_x3 X_x5 200 X_x4 X_f0_piled X_f0_clock X_f0_groups X_f0_wrong X_a1 M_a1 F_a1 S_a1 N_a1 X_a6 X_a7 X_a8 X_a9 X_a10 X_a11 X_a12 X_a13))) n
theorem sz_drop_40 {e : Nat → Int32} {post : Int32 → St2 → Prop} {k : Nat → Nat → Nat → Nat → Nat → Nat → Nat → Nat → Nat → Nat → Nat → Nat → Nat → Nat → Nat → Nat → Nat → Nat → Bool} {X_x1 X_x3 : Nat} {x1 x3 : Int32} (hk : ∀ ⦃R A M F S N P C G W B6 B7 B8 B9 B10 B11 B12 B13 : Nat⦄ ⦃r op pi cl gr wr : Int32⦄ ⦃c1 c2 c3 c4 c5 c6 c7 c8 c9 c10 c11 c12 c13 : Nat → Int32⦄, k R A M F S N P C G W B6 B7 B8 B9 B10 B11 B12 B13 = true → ab_rv e R r → ab_rg e A M F S N op c1 c2 c3 c4 c5 → ab_rv e P pi → ab_rv e C cl → ab_rv e G gr → ab_rv e W wr → ab_ra e 12 B6 c6 → ab_ra e 12 B7 c7 → ab_ra e 12 B8 c8 → ab_ra e 12 B9 c9 → ab_ra e 12 B10 c10 → ab_ra e 12 B11 c11 → ab_ra e 12 B12 c12 → ab_ra e 12 B13 c13 → post r (op, pi, cl, gr, wr, c1, c2, c3, c4, c5, c6, c7, c8, c9, c10, c11, c12, c13)) (h_x1 : ab_rv e X_x1 x1) (h_x3 : ab_rv e X_x3 x3) : ∀ (n : Nat) ⦃X_x4 X_x5 X_f0_piled X_f0_clock X_f0_groups X_f0_wrong X_a1 M_a1 F_a1 S_a1 N_a1 X_a6 X_a7 X_a8 X_a9 X_a10 X_a11 X_a12 X_a13 : Nat⦄ ⦃x4 x5 f0_op f0_piled f0_clock f0_groups f0_wrong : Int32⦄ ⦃a1 a2 a3 a4 a5 a6 a7 a8 a9 a10 a11 a12 a13 : Nat → Int32⦄, bz_drop_40 k X_x1 X_x3 n X_x4 X_x5 X_f0_piled X_f0_clock X_f0_groups X_f0_wrong X_a1 M_a1 F_a1 S_a1 N_a1 X_a6 X_a7 X_a8 X_a9 X_a10 X_a11 X_a12 X_a13 = true → ab_rv e X_x4 x4 → ab_rv e X_x5 x5 → ab_rv e X_f0_piled f0_piled → ab_rv e X_f0_clock f0_clock → ab_rv e X_f0_groups f0_groups → ab_rv e X_f0_wrong f0_wrong → ab_rg e X_a1 M_a1 F_a1 S_a1 N_a1 f0_op a1 a2 a3 a4 a5 → ab_ra e 12 X_a6 a6 → ab_ra e 12 X_a7 a7 → ab_ra e 12 X_a8 a8 → ab_ra e 12 X_a9 a9 → ab_ra e 12 X_a10 a10 → ab_ra e 12 X_a11 a11 → ab_ra e 12 X_a12 a12 → ab_ra e 12 X_a13 a13 → wX_drop_40 post x1 x3 n x4 x5 f0_op f0_piled f0_clock f0_groups f0_wrong a1 a2 a3 a4 a5 a6 a7 a8 a9 a10 a11 a12 a13 := by
  intro n
  induction n with
  | zero =>
    intro X_x4 X_x5 X_f0_piled X_f0_clock X_f0_groups X_f0_wrong X_a1 M_a1 F_a1 S_a1 N_a1 X_a6 X_a7 X_a8 X_a9 X_a10 X_a11 X_a12 X_a13 x4 x5 f0_op f0_piled f0_clock f0_groups f0_wrong a1 a2 a3 a4 a5 a6 a7 a8 a9 a10 a11 a12 a13 hb h_x4 h_x5 h_f0_piled h_f0_clock h_f0_groups h_f0_wrong g_a1 h_a6 h_a7 h_a8 h_a9 h_a10 h_a11 h_a12 h_a13
    exact absurd (show false = true from hb) (by decide)
  | succ n ih =>
    intro X_x4 X_x5 X_f0_piled X_f0_clock X_f0_groups X_f0_wrong X_a1 M_a1 F_a1 S_a1 N_a1 X_a6 X_a7 X_a8 X_a9 X_a10 X_a11 X_a12 X_a13 x4 x5 f0_op f0_piled f0_clock f0_groups f0_wrong a1 a2 a3 a4 a5 a6 a7 a8 a9 a10 a11 a12 a13 hb h_x4 h_x5 h_f0_piled h_f0_clock h_f0_groups h_f0_wrong g_a1 h_a6 h_a7 h_a8 h_a9 h_a10 h_a11 h_a12 h_a13
    refine ab_leS hb ab_l2 h_x5 (fun hb => ?_) (fun hb => ?_)
    · refine sz_removeFromRow hb ?_ g_a1 h_f0_piled h_f0_clock h_f0_groups h_f0_wrong h_a6 h_a7 h_a8 h_a9 h_a10 h_a11 h_a12 h_a13 h_x1
      intro X_am891_14 M_am891_14 F_am891_14 S_am891_14 N_am891_14 X_f0_piled_8 X_f0_clock_9 X_f0_groups_10 X_f0_wrong_11 X_am896_29 X_am897_32 X_am898_35 X_am899_38 X_am8910_41 X_am8911_44 X_am8912_47 X_am8913_50 f0_op_7 f0_piled_8 f0_clock_9 f0_groups_10 f0_wrong_11 am891_14 am892_17 am893_20 am894_23 am895_26 am896_29 am897_32 am898_35 am899_38 am8910_41 am8911_44 am8912_47 am8913_50 hb g_am891_14 h_f0_piled_8 h_f0_clock_9 h_f0_groups_10 h_f0_wrong_11 h_am896_29 h_am897_32 h_am898_35 h_am899_38 h_am8910_41 h_am8911_44 h_am8912_47 h_am8913_50
      refine sz_put hb ?_ g_am891_14 h_f0_piled_8 h_f0_clock_9 h_f0_groups_10 h_f0_wrong_11 h_am896_29 h_am897_32 h_am898_35 h_am899_38 h_am8910_41 h_am8911_44 h_am8912_47 h_am8913_50 (ab_addS h_x3 ab_l0) ab_l0
      intro X_am971_59 M_am971_59 F_am971_59 S_am971_59 N_am971_59 X_f0_piled_53 X_f0_clock_54 X_f0_groups_55 X_f0_wrong_56 X_am976_74 X_am977_77 X_am978_80 X_am979_83 X_am9710_86 X_am9711_89 X_am9712_92 X_am9713_95 f0_op_52 f0_piled_53 f0_clock_54 f0_groups_55 f0_wrong_56 am971_59 am972_62 am973_65 am974_68 am975_71 am976_74 am977_77 am978_80 am979_83 am9710_86 am9711_89 am9712_92 am9713_95 hb g_am971_59 h_f0_piled_53 h_f0_clock_54 h_f0_groups_55 h_f0_wrong_56 h_am976_74 h_am977_77 h_am978_80 h_am979_83 h_am9710_86 h_am9711_89 h_am9712_92 h_am9713_95
      refine sz_giveBack hb ?_ g_am971_59 h_f0_piled_53 h_f0_clock_54 h_f0_groups_55 h_f0_wrong_56 h_am976_74 h_am977_77 h_am978_80 h_am979_83 h_am9710_86 h_am9711_89 h_am9712_92 h_am9713_95 ab_l0 ab_l16 ab_l7 ab_l5 h_x1
      intro X_am1081_104 M_am1081_104 F_am1081_104 S_am1081_104 N_am1081_104 X_f0_piled_98 X_f0_clock_99 X_f0_groups_100 X_f0_wrong_101 X_am1086_119 X_am1087_122 X_am1088_125 X_am1089_128 X_am10810_131 X_am10811_134 X_am10812_137 X_am10813_140 f0_op_97 f0_piled_98 f0_clock_99 f0_groups_100 f0_wrong_101 am1081_104 am1082_107 am1083_110 am1084_113 am1085_116 am1086_119 am1087_122 am1088_125 am1089_128 am10810_131 am10811_134 am10812_137 am10813_140 hb g_am1081_104 h_f0_piled_98 h_f0_clock_99 h_f0_groups_100 h_f0_wrong_101 h_am1086_119 h_am1087_122 h_am1088_125 h_am1089_128 h_am10810_131 h_am10811_134 h_am10812_137 h_am10813_140
      exact hk hb h_x4 g_am1081_104 h_f0_piled_98 h_f0_clock_99 h_f0_groups_100 h_f0_wrong_101 h_am1086_119 h_am1087_122 h_am1088_125 h_am1089_128 h_am10810_131 h_am10811_134 h_am10812_137 h_am10813_140
    · exact ⟨200, sz_drop_46 hk ih h_x1 h_x3 h_x5 200 hb h_x4 h_f0_piled h_f0_clock h_f0_groups h_f0_wrong g_a1 h_a6 h_a7 h_a8 h_a9 h_a10 h_a11 h_a12 h_a13⟩
noncomputable def bz_drop (k : Nat → Nat → Nat → Nat → Nat → Nat → Nat → Nat → Nat → Nat → Nat → Nat → Nat → Nat → Nat → Nat → Nat → Nat → Bool) (X_a1 M_a1 F_a1 S_a1 N_a1 X_f0_piled X_f0_clock X_f0_groups X_f0_wrong X_a6 X_a7 X_a8 X_a9 X_a10 X_a11 X_a12 X_a13 X_p0 X_p1 : Nat) : Bool :=
  (bz_isNode (fun X_r_1 => (ab_eq X_r_1 16 (k 15 X_a1 M_a1 F_a1 S_a1 N_a1 X_f0_piled X_f0_clock X_f0_groups X_f0_wrong X_a6 X_a7 X_a8 X_a9 X_a10 X_a11 X_a12 X_a13) (bz_nodeAt (fun X_r_3 => (ab_eq X_p1 16 (ab_vin 340 (ab_add X_r_3 22) (ab_le (ab_rdc X_a1 (ab_add X_r_3 22)) 16 (bz_drop_40 k X_p0 X_r_3 200 16 16 X_f0_piled X_f0_clock X_f0_groups X_f0_wrong X_a1 M_a1 F_a1 S_a1 N_a1 X_a6 X_a7 X_a8 X_a9 X_a10 X_a11 X_a12 X_a13) (k 12 X_a1 M_a1 F_a1 S_a1 N_a1 X_f0_piled X_f0_clock X_f0_groups X_f0_wrong X_a6 X_a7 X_a8 X_a9 X_a10 X_a11 X_a12 X_a13))) (bz_drop_40 k X_p0 X_r_3 200 16 16 X_f0_piled X_f0_clock X_f0_groups X_f0_wrong X_a1 M_a1 F_a1 S_a1 N_a1 X_a6 X_a7 X_a8 X_a9 X_a10 X_a11 X_a12 X_a13))) X_p0))) X_a1 M_a1 F_a1 S_a1 N_a1 X_f0_piled X_f0_clock X_f0_groups X_f0_wrong X_a6 X_a7 X_a8 X_a9 X_a10 X_a11 X_a12 X_a13 X_p0)
theorem sz_drop {e : Nat → Int32} {post : Int32 → St2 → Prop} {k : Nat → Nat → Nat → Nat → Nat → Nat → Nat → Nat → Nat → Nat → Nat → Nat → Nat → Nat → Nat → Nat → Nat → Nat → Bool} {X_a1 M_a1 F_a1 S_a1 N_a1 X_f0_piled X_f0_clock X_f0_groups X_f0_wrong X_a6 X_a7 X_a8 X_a9 X_a10 X_a11 X_a12 X_a13 X_p0 X_p1 : Nat} {f0_op f0_piled f0_clock f0_groups f0_wrong p0 p1 : Int32} {a1 a2 a3 a4 a5 a6 a7 a8 a9 a10 a11 a12 a13 : Nat → Int32} (hb : bz_drop k X_a1 M_a1 F_a1 S_a1 N_a1 X_f0_piled X_f0_clock X_f0_groups X_f0_wrong X_a6 X_a7 X_a8 X_a9 X_a10 X_a11 X_a12 X_a13 X_p0 X_p1 = true) (hk : ∀ ⦃R A M F S N P C G W B6 B7 B8 B9 B10 B11 B12 B13 : Nat⦄ ⦃r op pi cl gr wr : Int32⦄ ⦃c1 c2 c3 c4 c5 c6 c7 c8 c9 c10 c11 c12 c13 : Nat → Int32⦄, k R A M F S N P C G W B6 B7 B8 B9 B10 B11 B12 B13 = true → ab_rv e R r → ab_rg e A M F S N op c1 c2 c3 c4 c5 → ab_rv e P pi → ab_rv e C cl → ab_rv e G gr → ab_rv e W wr → ab_ra e 12 B6 c6 → ab_ra e 12 B7 c7 → ab_ra e 12 B8 c8 → ab_ra e 12 B9 c9 → ab_ra e 12 B10 c10 → ab_ra e 12 B11 c11 → ab_ra e 12 B12 c12 → ab_ra e 12 B13 c13 → post r (op, pi, cl, gr, wr, c1, c2, c3, c4, c5, c6, c7, c8, c9, c10, c11, c12, c13)) (g_a1 : ab_rg e X_a1 M_a1 F_a1 S_a1 N_a1 f0_op a1 a2 a3 a4 a5) (h_f0_piled : ab_rv e X_f0_piled f0_piled) (h_f0_clock : ab_rv e X_f0_clock f0_clock) (h_f0_groups : ab_rv e X_f0_groups f0_groups) (h_f0_wrong : ab_rv e X_f0_wrong f0_wrong) (h_a6 : ab_ra e 12 X_a6 a6) (h_a7 : ab_ra e 12 X_a7 a7) (h_a8 : ab_ra e 12 X_a8 a8) (h_a9 : ab_ra e 12 X_a9 a9) (h_a10 : ab_ra e 12 X_a10 a10) (h_a11 : ab_ra e 12 X_a11 a11) (h_a12 : ab_ra e 12 X_a12 a12) (h_a13 : ab_ra e 12 X_a13 a13) (h_p0 : ab_rv e X_p0 p0) (h_p1 : ab_rv e X_p1 p1) : wpX_drop post (f0_op, f0_piled, f0_clock, f0_groups, f0_wrong, a1, a2, a3, a4, a5, a6, a7, a8, a9, a10, a11, a12, a13) p0 p1 := by
  unfold wpX_drop
  refine sz_isNode hb ?_ g_a1 h_f0_piled h_f0_clock h_f0_groups h_f0_wrong h_a6 h_a7 h_a8 h_a9 h_a10 h_a11 h_a12 h_a13 h_p0
  intro X_r_1 r_1 hb h_r_1
  refine ab_eqS hb h_r_1 ab_l0 (fun hb => ?_) (fun hb => ?_)
  · exact hk hb ab_m1 g_a1 h_f0_piled h_f0_clock h_f0_groups h_f0_wrong h_a6 h_a7 h_a8 h_a9 h_a10 h_a11 h_a12 h_a13
  · refine sz_nodeAt hb ?_ h_p0
    intro X_r_3 r_3 hb h_r_3
    refine ab_eqS hb h_p1 ab_l0 (fun hb => ?_) (fun hb => ?_)
    · refine ab_vinS hb (by decide) (ab_addS h_r_3 ab_l6) (fun hb => ?_)
      refine ab_leS hb (ab_rdcS g_a1.1 (ab_addS h_r_3 ab_l6)) ab_l0 (fun hb => ?_) (fun hb => ?_)
      · exact ⟨200, sz_drop_40 hk h_p0 h_r_3 200 hb ab_l0 ab_l0 h_f0_piled h_f0_clock h_f0_groups h_f0_wrong g_a1 h_a6 h_a7 h_a8 h_a9 h_a10 h_a11 h_a12 h_a13⟩
      · exact hk hb ab_m4 g_a1 h_f0_piled h_f0_clock h_f0_groups h_f0_wrong h_a6 h_a7 h_a8 h_a9 h_a10 h_a11 h_a12 h_a13
    · exact ⟨200, sz_drop_40 hk h_p0 h_r_3 200 hb ab_l0 ab_l0 h_f0_piled h_f0_clock h_f0_groups h_f0_wrong g_a1 h_a6 h_a7 h_a8 h_a9 h_a10 h_a11 h_a12 h_a13⟩
end
section
noncomputable def bz_lawOf_1224 (k : Nat → Bool) (n : Nat) : Nat → Nat → Nat → Nat → Nat → Nat → Nat → Nat → Nat → Nat → Nat → Nat → Nat → Nat → Nat → Nat → Nat → Nat → Bool :=
  Nat.rec (motive := fun _ => Nat → Nat → Nat → Nat → Nat → Nat → Nat → Nat → Nat → Nat → Nat → Nat → Nat → Nat → Nat → Nat → Nat → Nat → Bool) (fun _ _ _ _ _ _ _ _ _ _ _ _ _ _ _ _ _ _ => false) (fun _ ih => fun X_x14 X_fm0_piled X_fm0_clock X_fm0_groups X_fm0_wrong X_am6961 M_am6961 F_am6961 S_am6961 N_am6961 X_am6966 X_am6967 X_am6968 X_am6969 X_am69610 X_am69611 X_am69612 X_am69613 => (ab_le 40 X_x14 (bz_arrow (fun X_r_1037 X_am12681_1045 M_am12681_1045 F_am12681_1045 S_am12681_1045 N_am12681_1045 X_fm0_piled_1039 X_fm0_clock_1040 X_fm0_groups_1041 X_fm0_wrong_1042 X_am12686_1060 X_am12687_1063 X_am12688_1066 X_am12689_1069 X_am126810_1072 X_am126811_1075 X_am126812_1078 X_am126813_1081 => (ab_eq X_r_1037 13 (bz_arrow (fun X_r_1083 X_am12811_1091 M_am12811_1091 F_am12811_1091 S_am12811_1091 N_am12811_1091 X_fm0_piled_1085 X_fm0_clock_1086 X_fm0_groups_1087 X_fm0_wrong_1088 X_am12816_1106 X_am12817_1109 X_am12818_1112 X_am12819_1115 X_am128110_1118 X_am128111_1121 X_am128112_1124 X_am128113_1127 => (ab_eq X_r_1083 15 (bz_drop (fun X_r_1129 X_am12921_1137 M_am12921_1137 F_am12921_1137 S_am12921_1137 N_am12921_1137 X_fm0_piled_1131 X_fm0_clock_1132 X_fm0_groups_1133 X_fm0_wrong_1134 X_am12926_1152 X_am12927_1155 X_am12928_1158 X_am12929_1161 X_am129210_1164 X_am129211_1167 X_am129212_1170 X_am129213_1173 => (ab_eq X_r_1129 18 (bz_faults (fun X_r_1175 X_am13011_1183 M_am13011_1183 F_am13011_1183 S_am13011_1183 N_am13011_1183 X_fm0_piled_1177 X_fm0_clock_1178 X_fm0_groups_1179 X_fm0_wrong_1180 X_am13016_1198 X_am13017_1201 X_am13018_1204 X_am13019_1207 X_am130110_1210 X_am130111_1213 X_am130112_1216 X_am130113_1219 => (ab_eq X_r_1175 16 (bz_cut (fun X_r_1221 X_am13101_1229 M_am13101_1229 F_am13101_1229 S_am13101_1229 N_am13101_1229 X_fm0_piled_1223 X_fm0_clock_1224 X_fm0_groups_1225 X_fm0_wrong_1226 X_am13106_1244 X_am13107_1247 X_am13108_1250 X_am13109_1253 X_am131010_1256 X_am131011_1259 X_am131012_1262 X_am131013_1265 => (ab_eq X_r_1221 15 (bz_cut (fun X_r_1267 X_am13201_1275 M_am13201_1275 F_am13201_1275 S_am13201_1275 N_am13201_1275 X_fm0_piled_1269 X_fm0_clock_1270 X_fm0_groups_1271 X_fm0_wrong_1272 X_am13206_1290 X_am13207_1293 X_am13208_1296 X_am13209_1299 X_am132010_1302 X_am132011_1305 X_am132012_1308 X_am132013_1311 => (ab_eq X_r_1267 37 (k 17) (k 16))) X_am13101_1229 M_am13101_1229 F_am13101_1229 S_am13101_1229 N_am13101_1229 X_fm0_piled_1223 X_fm0_clock_1224 X_fm0_groups_1225 X_fm0_wrong_1226 X_am13106_1244 X_am13107_1247 X_am13108_1250 X_am13109_1253 X_am131010_1256 X_am131011_1259 X_am131012_1262 X_am131013_1265 21) (k 16))) X_am13011_1183 M_am13011_1183 F_am13011_1183 S_am13011_1183 N_am13011_1183 X_fm0_piled_1177 X_fm0_clock_1178 X_fm0_groups_1179 X_fm0_wrong_1180 X_am13016_1198 X_am13017_1201 X_am13018_1204 X_am13019_1207 X_am130110_1210 X_am130111_1213 X_am130112_1216 X_am130113_1219 18) (k 16))) X_am12921_1137 M_am12921_1137 F_am12921_1137 S_am12921_1137 N_am12921_1137 X_fm0_piled_1131 X_fm0_clock_1132 X_fm0_groups_1133 X_fm0_wrong_1134 X_am12926_1152 X_am12927_1155 X_am12928_1158 X_am12929_1161 X_am129210_1164 X_am129211_1167 X_am129212_1170 X_am129213_1173) (k 16))) X_am12811_1091 M_am12811_1091 F_am12811_1091 S_am12811_1091 N_am12811_1091 X_fm0_piled_1085 X_fm0_clock_1086 X_fm0_groups_1087 X_fm0_wrong_1088 X_am12816_1106 X_am12817_1109 X_am12818_1112 X_am12819_1115 X_am128110_1118 X_am128111_1121 X_am128112_1124 X_am128113_1127 18 17) (k 16))) X_am12681_1045 M_am12681_1045 F_am12681_1045 S_am12681_1045 N_am12681_1045 X_fm0_piled_1039 X_fm0_clock_1040 X_fm0_groups_1041 X_fm0_wrong_1042 X_am12686_1060 X_am12687_1063 X_am12688_1066 X_am12689_1069 X_am126810_1072 X_am126811_1075 X_am126812_1078 X_am126813_1081 16 20 16) (k 16))) X_am6961 M_am6961 F_am6961 S_am6961 N_am6961 X_fm0_piled X_fm0_clock X_fm0_groups X_fm0_wrong X_am6966 X_am6967 X_am6968 X_am6969 X_am69610 X_am69611 X_am69612 X_am69613 16 16 16) (bz_arrow (fun X_r_1314 X_am12471_1322 M_am12471_1322 F_am12471_1322 S_am12471_1322 N_am12471_1322 X_fm0_piled_1316 X_fm0_clock_1317 X_fm0_groups_1318 X_fm0_wrong_1319 X_am12476_1337 X_am12477_1340 X_am12478_1343 X_am12479_1346 X_am124710_1349 X_am124711_1352 X_am124712_1355 X_am124713_1358 => (ab_eq X_r_1314 X_x14 (ab_str (ab_add X_x14 17) (fun X_x14_1360 => (ih X_x14_1360 X_fm0_piled_1316 X_fm0_clock_1317 X_fm0_groups_1318 X_fm0_wrong_1319 X_am12471_1322 M_am12471_1322 F_am12471_1322 S_am12471_1322 N_am12471_1322 X_am12476_1337 X_am12477_1340 X_am12478_1343 X_am12479_1346 X_am124710_1349 X_am124711_1352 X_am124712_1355 X_am124713_1358))) (k 16))) X_am6961 M_am6961 F_am6961 S_am6961 N_am6961 X_fm0_piled X_fm0_clock X_fm0_groups X_fm0_wrong X_am6966 X_am6967 X_am6968 X_am6969 X_am69610 X_am69611 X_am69612 X_am69613 (ab_mul 29 (ab_sub X_x14 (ab_mul (ab_div X_x14 28) 28))) (ab_and X_x14 19) X_x14))) n
theorem sz_lawOf_1224 {e : Nat → Int32} {post : Int32 → St0 → Prop} {k : Nat → Bool} {mc ms kc ks : Nat} (hk : ∀ ⦃R : Nat⦄ ⦃r : Int32⦄, k R = true → ab_rv e R r → post r ()) : ∀ (n : Nat) ⦃X_x14 X_fm0_piled X_fm0_clock X_fm0_groups X_fm0_wrong X_am6961 M_am6961 F_am6961 S_am6961 N_am6961 X_am6966 X_am6967 X_am6968 X_am6969 X_am69610 X_am69611 X_am69612 X_am69613 : Nat⦄ ⦃x14 fm0_op fm0_piled fm0_clock fm0_groups fm0_wrong : Int32⦄ ⦃am6961 am6962 am6963 am6964 am6965 am6966 am6967 am6968 am6969 am69610 am69611 am69612 am69613 : Nat → Int32⦄, bz_lawOf_1224 k  n X_x14 X_fm0_piled X_fm0_clock X_fm0_groups X_fm0_wrong X_am6961 M_am6961 F_am6961 S_am6961 N_am6961 X_am6966 X_am6967 X_am6968 X_am6969 X_am69610 X_am69611 X_am69612 X_am69613 = true → ab_rv e X_x14 x14 → ab_rv e X_fm0_piled fm0_piled → ab_rv e X_fm0_clock fm0_clock → ab_rv e X_fm0_groups fm0_groups → ab_rv e X_fm0_wrong fm0_wrong → ab_rg e X_am6961 M_am6961 F_am6961 S_am6961 N_am6961 fm0_op am6961 am6962 am6963 am6964 am6965 → ab_ra e 12 X_am6966 am6966 → ab_ra e 12 X_am6967 am6967 → ab_ra e 12 X_am6968 am6968 → ab_ra e 12 X_am6969 am6969 → ab_ra e 12 X_am69610 am69610 → ab_ra e 12 X_am69611 am69611 → ab_ra e 12 X_am69612 am69612 → ab_ra e 12 X_am69613 am69613 → wL_lawOf_1224 post mc ms kc ks n x14 fm0_op fm0_piled fm0_clock fm0_groups fm0_wrong am6961 am6962 am6963 am6964 am6965 am6966 am6967 am6968 am6969 am69610 am69611 am69612 am69613 := by
  intro n
  induction n with
  | zero =>
    intro X_x14 X_fm0_piled X_fm0_clock X_fm0_groups X_fm0_wrong X_am6961 M_am6961 F_am6961 S_am6961 N_am6961 X_am6966 X_am6967 X_am6968 X_am6969 X_am69610 X_am69611 X_am69612 X_am69613 x14 fm0_op fm0_piled fm0_clock fm0_groups fm0_wrong am6961 am6962 am6963 am6964 am6965 am6966 am6967 am6968 am6969 am69610 am69611 am69612 am69613 hb h_x14 h_fm0_piled h_fm0_clock h_fm0_groups h_fm0_wrong g_am6961 h_am6966 h_am6967 h_am6968 h_am6969 h_am69610 h_am69611 h_am69612 h_am69613
    exact absurd (show false = true from hb) (by decide)
  | succ n ih =>
    intro X_x14 X_fm0_piled X_fm0_clock X_fm0_groups X_fm0_wrong X_am6961 M_am6961 F_am6961 S_am6961 N_am6961 X_am6966 X_am6967 X_am6968 X_am6969 X_am69610 X_am69611 X_am69612 X_am69613 x14 fm0_op fm0_piled fm0_clock fm0_groups fm0_wrong am6961 am6962 am6963 am6964 am6965 am6966 am6967 am6968 am6969 am69610 am69611 am69612 am69613 hb h_x14 h_fm0_piled h_fm0_clock h_fm0_groups h_fm0_wrong g_am6961 h_am6966 h_am6967 h_am6968 h_am6969 h_am69610 h_am69611 h_am69612 h_am69613
    refine ab_leS hb ab_l24 h_x14 (fun hb => ?_) (fun hb => ?_)
    · refine sz_arrow hb ?_ g_am6961 h_fm0_piled h_fm0_clock h_fm0_groups h_fm0_wrong h_am6966 h_am6967 h_am6968 h_am6969 h_am69610 h_am69611 h_am69612 h_am69613 ab_l0 ab_l0 ab_l0
      intro X_r_1037 X_am12681_1045 M_am12681_1045 F_am12681_1045 S_am12681_1045 N_am12681_1045 X_fm0_piled_1039 X_fm0_clock_1040 X_fm0_groups_1041 X_fm0_wrong_1042 X_am12686_1060 X_am12687_1063 X_am12688_1066 X_am12689_1069 X_am126810_1072 X_am126811_1075 X_am126812_1078 X_am126813_1081 r_1037 fm0_op_1038 fm0_piled_1039 fm0_clock_1040 fm0_groups_1041 fm0_wrong_1042 am12681_1045 am12682_1048 am12683_1051 am12684_1054 am12685_1057 am12686_1060 am12687_1063 am12688_1066 am12689_1069 am126810_1072 am126811_1075 am126812_1078 am126813_1081 hb h_r_1037 g_am12681_1045 h_fm0_piled_1039 h_fm0_clock_1040 h_fm0_groups_1041 h_fm0_wrong_1042 h_am12686_1060 h_am12687_1063 h_am12688_1066 h_am12689_1069 h_am126810_1072 h_am126811_1075 h_am126812_1078 h_am126813_1081
      refine ab_eqS hb h_r_1037 ab_m3 (fun hb => ?_) (fun hb => ?_)
      · refine sz_arrow hb ?_ g_am12681_1045 h_fm0_piled_1039 h_fm0_clock_1040 h_fm0_groups_1041 h_fm0_wrong_1042 h_am12686_1060 h_am12687_1063 h_am12688_1066 h_am12689_1069 h_am126810_1072 h_am126811_1075 h_am126812_1078 h_am126813_1081 ab_l0 ab_l4 ab_l0
        intro X_r_1083 X_am12811_1091 M_am12811_1091 F_am12811_1091 S_am12811_1091 N_am12811_1091 X_fm0_piled_1085 X_fm0_clock_1086 X_fm0_groups_1087 X_fm0_wrong_1088 X_am12816_1106 X_am12817_1109 X_am12818_1112 X_am12819_1115 X_am128110_1118 X_am128111_1121 X_am128112_1124 X_am128113_1127 r_1083 fm0_op_1084 fm0_piled_1085 fm0_clock_1086 fm0_groups_1087 fm0_wrong_1088 am12811_1091 am12812_1094 am12813_1097 am12814_1100 am12815_1103 am12816_1106 am12817_1109 am12818_1112 am12819_1115 am128110_1118 am128111_1121 am128112_1124 am128113_1127 hb h_r_1083 g_am12811_1091 h_fm0_piled_1085 h_fm0_clock_1086 h_fm0_groups_1087 h_fm0_wrong_1088 h_am12816_1106 h_am12817_1109 h_am12818_1112 h_am12819_1115 h_am128110_1118 h_am128111_1121 h_am128112_1124 h_am128113_1127
        refine ab_eqS hb h_r_1083 ab_m1 (fun hb => ?_) (fun hb => ?_)
        · refine sz_drop hb ?_ g_am12811_1091 h_fm0_piled_1085 h_fm0_clock_1086 h_fm0_groups_1087 h_fm0_wrong_1088 h_am12816_1106 h_am12817_1109 h_am12818_1112 h_am12819_1115 h_am128110_1118 h_am128111_1121 h_am128112_1124 h_am128113_1127 ab_l2 ab_l1
          intro X_r_1129 X_am12921_1137 M_am12921_1137 F_am12921_1137 S_am12921_1137 N_am12921_1137 X_fm0_piled_1131 X_fm0_clock_1132 X_fm0_groups_1133 X_fm0_wrong_1134 X_am12926_1152 X_am12927_1155 X_am12928_1158 X_am12929_1161 X_am129210_1164 X_am129211_1167 X_am129212_1170 X_am129213_1173 r_1129 fm0_op_1130 fm0_piled_1131 fm0_clock_1132 fm0_groups_1133 fm0_wrong_1134 am12921_1137 am12922_1140 am12923_1143 am12924_1146 am12925_1149 am12926_1152 am12927_1155 am12928_1158 am12929_1161 am129210_1164 am129211_1167 am129212_1170 am129213_1173 hb h_r_1129 g_am12921_1137 h_fm0_piled_1131 h_fm0_clock_1132 h_fm0_groups_1133 h_fm0_wrong_1134 h_am12926_1152 h_am12927_1155 h_am12928_1158 h_am12929_1161 h_am129210_1164 h_am129211_1167 h_am129212_1170 h_am129213_1173
          refine ab_eqS hb h_r_1129 ab_l2 (fun hb => ?_) (fun hb => ?_)
          · refine sz_faults hb ?_ g_am12921_1137 h_fm0_piled_1131 h_fm0_clock_1132 h_fm0_groups_1133 h_fm0_wrong_1134 h_am12926_1152 h_am12927_1155 h_am12928_1158 h_am12929_1161 h_am129210_1164 h_am129211_1167 h_am129212_1170 h_am129213_1173
            intro X_r_1175 X_am13011_1183 M_am13011_1183 F_am13011_1183 S_am13011_1183 N_am13011_1183 X_fm0_piled_1177 X_fm0_clock_1178 X_fm0_groups_1179 X_fm0_wrong_1180 X_am13016_1198 X_am13017_1201 X_am13018_1204 X_am13019_1207 X_am130110_1210 X_am130111_1213 X_am130112_1216 X_am130113_1219 r_1175 fm0_op_1176 fm0_piled_1177 fm0_clock_1178 fm0_groups_1179 fm0_wrong_1180 am13011_1183 am13012_1186 am13013_1189 am13014_1192 am13015_1195 am13016_1198 am13017_1201 am13018_1204 am13019_1207 am130110_1210 am130111_1213 am130112_1216 am130113_1219 hb h_r_1175 g_am13011_1183 h_fm0_piled_1177 h_fm0_clock_1178 h_fm0_groups_1179 h_fm0_wrong_1180 h_am13016_1198 h_am13017_1201 h_am13018_1204 h_am13019_1207 h_am130110_1210 h_am130111_1213 h_am130112_1216 h_am130113_1219
            refine ab_eqS hb h_r_1175 ab_l0 (fun hb => ?_) (fun hb => ?_)
            · refine sz_cut hb ?_ g_am13011_1183 h_fm0_piled_1177 h_fm0_clock_1178 h_fm0_groups_1179 h_fm0_wrong_1180 h_am13016_1198 h_am13017_1201 h_am13018_1204 h_am13019_1207 h_am130110_1210 h_am130111_1213 h_am130112_1216 h_am130113_1219 ab_l2
              intro X_r_1221 X_am13101_1229 M_am13101_1229 F_am13101_1229 S_am13101_1229 N_am13101_1229 X_fm0_piled_1223 X_fm0_clock_1224 X_fm0_groups_1225 X_fm0_wrong_1226 X_am13106_1244 X_am13107_1247 X_am13108_1250 X_am13109_1253 X_am131010_1256 X_am131011_1259 X_am131012_1262 X_am131013_1265 r_1221 fm0_op_1222 fm0_piled_1223 fm0_clock_1224 fm0_groups_1225 fm0_wrong_1226 am13101_1229 am13102_1232 am13103_1235 am13104_1238 am13105_1241 am13106_1244 am13107_1247 am13108_1250 am13109_1253 am131010_1256 am131011_1259 am131012_1262 am131013_1265 hb h_r_1221 g_am13101_1229 h_fm0_piled_1223 h_fm0_clock_1224 h_fm0_groups_1225 h_fm0_wrong_1226 h_am13106_1244 h_am13107_1247 h_am13108_1250 h_am13109_1253 h_am131010_1256 h_am131011_1259 h_am131012_1262 h_am131013_1265
              refine ab_eqS hb h_r_1221 ab_m1 (fun hb => ?_) (fun hb => ?_)
              · refine sz_cut hb ?_ g_am13101_1229 h_fm0_piled_1223 h_fm0_clock_1224 h_fm0_groups_1225 h_fm0_wrong_1226 h_am13106_1244 h_am13107_1247 h_am13108_1250 h_am13109_1253 h_am131010_1256 h_am131011_1259 h_am131012_1262 h_am131013_1265 ab_l5
                intro X_r_1267 X_am13201_1275 M_am13201_1275 F_am13201_1275 S_am13201_1275 N_am13201_1275 X_fm0_piled_1269 X_fm0_clock_1270 X_fm0_groups_1271 X_fm0_wrong_1272 X_am13206_1290 X_am13207_1293 X_am13208_1296 X_am13209_1299 X_am132010_1302 X_am132011_1305 X_am132012_1308 X_am132013_1311 r_1267 fm0_op_1268 fm0_piled_1269 fm0_clock_1270 fm0_groups_1271 fm0_wrong_1272 am13201_1275 am13202_1278 am13203_1281 am13204_1284 am13205_1287 am13206_1290 am13207_1293 am13208_1296 am13209_1299 am132010_1302 am132011_1305 am132012_1308 am132013_1311 hb h_r_1267 g_am13201_1275 h_fm0_piled_1269 h_fm0_clock_1270 h_fm0_groups_1271 h_fm0_wrong_1272 h_am13206_1290 h_am13207_1293 h_am13208_1296 h_am13209_1299 h_am132010_1302 h_am132011_1305 h_am132012_1308 h_am132013_1311
                refine ab_eqS hb h_r_1267 ab_l21 (fun hb => ?_) (fun hb => ?_)
                · exact hk hb ab_l1
                · exact hk hb ab_l0
              · exact hk hb ab_l0
            · exact hk hb ab_l0
          · exact hk hb ab_l0
        · exact hk hb ab_l0
      · exact hk hb ab_l0
    · refine ab_d12 ?_
      refine sz_arrow hb ?_ g_am6961 h_fm0_piled h_fm0_clock h_fm0_groups h_fm0_wrong h_am6966 h_am6967 h_am6968 h_am6969 h_am69610 h_am69611 h_am69612 h_am69613 (ab_mulS ab_l13 (ab_subS h_x14 (ab_mulS (ab_divS h_x14 ab_l12) ab_l12))) (ab_andS h_x14 ab_l3) h_x14
      intro X_r_1314 X_am12471_1322 M_am12471_1322 F_am12471_1322 S_am12471_1322 N_am12471_1322 X_fm0_piled_1316 X_fm0_clock_1317 X_fm0_groups_1318 X_fm0_wrong_1319 X_am12476_1337 X_am12477_1340 X_am12478_1343 X_am12479_1346 X_am124710_1349 X_am124711_1352 X_am124712_1355 X_am124713_1358 r_1314 fm0_op_1315 fm0_piled_1316 fm0_clock_1317 fm0_groups_1318 fm0_wrong_1319 am12471_1322 am12472_1325 am12473_1328 am12474_1331 am12475_1334 am12476_1337 am12477_1340 am12478_1343 am12479_1346 am124710_1349 am124711_1352 am124712_1355 am124713_1358 hb h_r_1314 g_am12471_1322 h_fm0_piled_1316 h_fm0_clock_1317 h_fm0_groups_1318 h_fm0_wrong_1319 h_am12476_1337 h_am12477_1340 h_am12478_1343 h_am12479_1346 h_am124710_1349 h_am124711_1352 h_am124712_1355 h_am124713_1358
      refine ab_eqS hb h_r_1314 h_x14 (fun hb => ?_) (fun hb => ?_)
      · refine ab_letS hb (ab_addS h_x14 ab_l1) ?_
        intro X_x14_1360 x14_1360 hb h_x14_1360
        exact ih hb h_x14_1360 h_fm0_piled_1316 h_fm0_clock_1317 h_fm0_groups_1318 h_fm0_wrong_1319 g_am12471_1322 h_am12476_1337 h_am12477_1340 h_am12478_1343 h_am12479_1346 h_am124710_1349 h_am124711_1352 h_am124712_1355 h_am124713_1358
      · exact hk hb ab_l0
noncomputable def bz_lawOf_933 (k : Nat → Bool) (cut_wL_lawOf_1224 : Nat → Nat → Nat → Nat → Nat → Nat → Nat → Nat → Nat → Nat → Nat → Nat → Nat → Nat → Nat → Nat → Nat → Bool) (X_x6 X_x8 X_x14 X_x15 X_z0 X_z1 X_fm0_piled X_fm0_clock X_fm0_groups X_fm0_wrong X_am9191 M_am9191 F_am9191 S_am9191 N_am9191 X_am9196 X_am9197 X_am9198 X_am9199 X_am91910 X_am91911 X_am91912 X_am91913 : Nat) : Bool :=
  (ab_eq X_z1 X_z0 (bz_degree (fun X_r_1412 => (ab_eq X_r_1412 17 (bz_degree (fun X_r_1414 => (ab_eq X_r_1414 17 (bz_degree (fun X_r_1416 => (ab_eq X_r_1416 16 (bz_degree (fun X_r_1418 => (ab_eq X_r_1418 17 (bz_arrowAt (fun X_r_1420 => (ab_eq X_r_1420 16 (bz_arrowAt (fun X_r_1422 => (ab_eq X_r_1422 16 (bz_arrowAt (fun X_r_1424 => (ab_eq X_r_1424 14 (bz_arrowAt (fun X_r_1426 => (ab_eq X_r_1426 15 (bz_arrowAt (fun X_r_1428 => (ab_eq X_r_1428 15 (bz_drop (fun X_r_1430 X_am10891_1438 M_am10891_1438 F_am10891_1438 S_am10891_1438 N_am10891_1438 X_fm0_piled_1432 X_fm0_clock_1433 X_fm0_groups_1434 X_fm0_wrong_1435 X_am10896_1453 X_am10897_1456 X_am10898_1459 X_am10899_1462 X_am108910_1465 X_am108911_1468 X_am108912_1471 X_am108913_1474 => (ab_eq X_r_1430 12 (bz_setWeight (fun X_r_1476 X_am11021_1484 M_am11021_1484 F_am11021_1484 S_am11021_1484 N_am11021_1484 X_fm0_piled_1478 X_fm0_clock_1479 X_fm0_groups_1480 X_fm0_wrong_1481 X_am11026_1499 X_am11027_1502 X_am11028_1505 X_am11029_1508 X_am110210_1511 X_am110211_1514 X_am110212_1517 X_am110213_1520 => (ab_eq X_r_1476 15 (bz_setWeight (fun X_r_1522 X_am11141_1530 M_am11141_1530 F_am11141_1530 S_am11141_1530 N_am11141_1530 X_fm0_piled_1524 X_fm0_clock_1525 X_fm0_groups_1526 X_fm0_wrong_1527 X_am11146_1545 X_am11147_1548 X_am11148_1551 X_am11149_1554 X_am111410_1557 X_am111411_1560 X_am111412_1563 X_am111413_1566 => (ab_eq X_r_1522 X_x8 (bz_begin (fun X_r_1568 X_am11241_1576 M_am11241_1576 F_am11241_1576 S_am11241_1576 N_am11241_1576 X_fm0_piled_1570 X_fm0_clock_1571 X_fm0_groups_1572 X_fm0_wrong_1573 X_am11246_1591 X_am11247_1594 X_am11248_1597 X_am11249_1600 X_am112410_1603 X_am112411_1606 X_am112412_1609 X_am112413_1612 => (ab_eq X_r_1568 17 (bz_drop (fun X_r_1614 X_am11361_1622 M_am11361_1622 F_am11361_1622 S_am11361_1622 N_am11361_1622 X_fm0_piled_1616 X_fm0_clock_1617 X_fm0_groups_1618 X_fm0_wrong_1619 X_am11366_1637 X_am11367_1640 X_am11368_1643 X_am11369_1646 X_am113610_1649 X_am113611_1652 X_am113612_1655 X_am113613_1658 => (ab_eq X_r_1614 17 (bz_labels (fun X_r_1660 => (ab_eq X_r_1660 15 (bz_look (fun X_r_1662 => (ab_eq X_r_1662 15 (bz_undo (fun X_r_1664 X_am11671_1672 M_am11671_1672 F_am11671_1672 S_am11671_1672 N_am11671_1672 X_fm0_piled_1666 X_fm0_clock_1667 X_fm0_groups_1668 X_fm0_wrong_1669 X_am11676_1687 X_am11677_1690 X_am11678_1693 X_am11679_1696 X_am116710_1699 X_am116711_1702 X_am116712_1705 X_am116713_1708 => (ab_eq X_r_1664 16 (bz_look (fun X_r_1710 => (ab_eq X_r_1710 115 (bz_cut (fun X_r_1712 X_am11881_1720 M_am11881_1720 F_am11881_1720 S_am11881_1720 N_am11881_1720 X_fm0_piled_1714 X_fm0_clock_1715 X_fm0_groups_1716 X_fm0_wrong_1717 X_am11886_1735 X_am11887_1738 X_am11888_1741 X_am11889_1744 X_am118810_1747 X_am118811_1750 X_am118812_1753 X_am118813_1756 => (ab_eq X_r_1712 16 (bz_drop (fun X_r_1758 X_am11991_1766 M_am11991_1766 F_am11991_1766 S_am11991_1766 N_am11991_1766 X_fm0_piled_1760 X_fm0_clock_1761 X_fm0_groups_1762 X_fm0_wrong_1763 X_am11996_1781 X_am11997_1784 X_am11998_1787 X_am11999_1790 X_am119910_1793 X_am119911_1796 X_am119912_1799 X_am119913_1802 => (ab_eq X_r_1758 16 (bz_node (fun X_r_1804 X_am12111_1812 M_am12111_1812 F_am12111_1812 S_am12111_1812 N_am12111_1812 X_fm0_piled_1806 X_fm0_clock_1807 X_fm0_groups_1808 X_fm0_wrong_1809 X_am12116_1827 X_am12117_1830 X_am12118_1833 X_am12119_1836 X_am121110_1839 X_am121111_1842 X_am121112_1845 X_am121113_1848 => (ab_eq X_r_1804 X_x15 (cut_wL_lawOf_1224 X_fm0_piled_1806 X_fm0_clock_1807 X_fm0_groups_1808 X_fm0_wrong_1809 X_am12111_1812 M_am12111_1812 F_am12111_1812 S_am12111_1812 N_am12111_1812 X_am12116_1827 X_am12117_1830 X_am12118_1833 X_am12119_1836 X_am121110_1839 X_am121111_1842 X_am121112_1845 X_am121113_1848) (k 16))) X_am11991_1766 M_am11991_1766 F_am11991_1766 S_am11991_1766 N_am11991_1766 X_fm0_piled_1760 X_fm0_clock_1761 X_fm0_groups_1762 X_fm0_wrong_1763 X_am11996_1781 X_am11997_1784 X_am11998_1787 X_am11999_1790 X_am119910_1793 X_am119911_1796 X_am119912_1799 X_am119913_1802 23 23) (k 16))) X_am11881_1720 M_am11881_1720 F_am11881_1720 S_am11881_1720 N_am11881_1720 X_fm0_piled_1714 X_fm0_clock_1715 X_fm0_groups_1716 X_fm0_wrong_1717 X_am11886_1735 X_am11887_1738 X_am11888_1741 X_am11889_1744 X_am118810_1747 X_am118811_1750 X_am118812_1753 X_am118813_1756 X_x15 16) (k 16))) X_am11671_1672 M_am11671_1672 F_am11671_1672 S_am11671_1672 N_am11671_1672 X_fm0_piled_1666 X_fm0_clock_1667 X_fm0_groups_1668 X_fm0_wrong_1669 X_am11676_1687 X_am11677_1690 X_am11678_1693 X_am11679_1696 X_am116710_1699 X_am116711_1702 X_am116712_1705 X_am116713_1708 16) (k 16))) X_am11671_1672 M_am11671_1672 F_am11671_1672 S_am11671_1672 N_am11671_1672 X_fm0_piled_1666 X_fm0_clock_1667 X_fm0_groups_1668 X_fm0_wrong_1669 X_am11676_1687 X_am11677_1690 X_am11678_1693 X_am11679_1696 X_am116710_1699 X_am116711_1702 X_am116712_1705 X_am116713_1708 16 19) (k 16))) X_am11361_1622 M_am11361_1622 F_am11361_1622 S_am11361_1622 N_am11361_1622 X_fm0_piled_1616 X_fm0_clock_1617 X_fm0_groups_1618 X_fm0_wrong_1619 X_am11366_1637 X_am11367_1640 X_am11368_1643 X_am11369_1646 X_am113610_1649 X_am113611_1652 X_am113612_1655 X_am113613_1658) (k 16))) X_am11361_1622 M_am11361_1622 F_am11361_1622 S_am11361_1622 N_am11361_1622 X_fm0_piled_1616 X_fm0_clock_1617 X_fm0_groups_1618 X_fm0_wrong_1619 X_am11366_1637 X_am11367_1640 X_am11368_1643 X_am11369_1646 X_am113610_1649 X_am113611_1652 X_am113612_1655 X_am113613_1658 16 16) (k 16))) X_am11361_1622 M_am11361_1622 F_am11361_1622 S_am11361_1622 N_am11361_1622 X_fm0_piled_1616 X_fm0_clock_1617 X_fm0_groups_1618 X_fm0_wrong_1619 X_am11366_1637 X_am11367_1640 X_am11368_1643 X_am11369_1646 X_am113610_1649 X_am113611_1652 X_am113612_1655 X_am113613_1658 X_x14) (k 16))) X_am11241_1576 M_am11241_1576 F_am11241_1576 S_am11241_1576 N_am11241_1576 X_fm0_piled_1570 X_fm0_clock_1571 X_fm0_groups_1572 X_fm0_wrong_1573 X_am11246_1591 X_am11247_1594 X_am11248_1597 X_am11249_1600 X_am112410_1603 X_am112411_1606 X_am112412_1609 X_am112413_1612 X_x14 17) (k 16))) X_am11141_1530 M_am11141_1530 F_am11141_1530 S_am11141_1530 N_am11141_1530 X_fm0_piled_1524 X_fm0_clock_1525 X_fm0_groups_1526 X_fm0_wrong_1527 X_am11146_1545 X_am11147_1548 X_am11148_1551 X_am11149_1554 X_am111410_1557 X_am111411_1560 X_am111412_1563 X_am111413_1566) (k 16))) X_am11021_1484 M_am11021_1484 F_am11021_1484 S_am11021_1484 N_am11021_1484 X_fm0_piled_1478 X_fm0_clock_1479 X_fm0_groups_1480 X_fm0_wrong_1481 X_am11026_1499 X_am11027_1502 X_am11028_1505 X_am11029_1508 X_am110210_1511 X_am110211_1514 X_am110212_1517 X_am110213_1520 16 115) (k 16))) X_am10891_1438 M_am10891_1438 F_am10891_1438 S_am10891_1438 N_am10891_1438 X_fm0_piled_1432 X_fm0_clock_1433 X_fm0_groups_1434 X_fm0_wrong_1435 X_am10896_1453 X_am10897_1456 X_am10898_1459 X_am10899_1462 X_am108910_1465 X_am108911_1468 X_am108912_1471 X_am108913_1474 16 116) (k 16))) X_am9191 M_am9191 F_am9191 S_am9191 N_am9191 X_fm0_piled X_fm0_clock X_fm0_groups X_fm0_wrong X_am9196 X_am9197 X_am9198 X_am9199 X_am91910 X_am91911 X_am91912 X_am91913 X_x15 16) (k 16))) X_am9191 M_am9191 F_am9191 S_am9191 N_am9191 X_fm0_piled X_fm0_clock X_fm0_groups X_fm0_wrong X_am9196 X_am9197 X_am9198 X_am9199 X_am91910 X_am91911 X_am91912 X_am91913 592 16) (k 16))) X_am9191 M_am9191 F_am9191 S_am9191 N_am9191 X_fm0_piled X_fm0_clock X_fm0_groups X_fm0_wrong X_am9196 X_am9197 X_am9198 X_am9199 X_am91910 X_am91911 X_am91912 X_am91913 (ab_add (ab_mul 32 X_x14) 21) 16) (k 16))) X_am9191 M_am9191 F_am9191 S_am9191 N_am9191 X_fm0_piled X_fm0_clock X_fm0_groups X_fm0_wrong X_am9196 X_am9197 X_am9198 X_am9199 X_am91910 X_am91911 X_am91912 X_am91913 (ab_add (ab_mul 32 (ab_add 28 X_x15)) X_x6) 17) (k 16))) X_am9191 M_am9191 F_am9191 S_am9191 N_am9191 X_fm0_piled X_fm0_clock X_fm0_groups X_fm0_wrong X_am9196 X_am9197 X_am9198 X_am9199 X_am91910 X_am91911 X_am91912 X_am91913 (ab_add (ab_mul 32 (ab_add 40 X_x15)) 20) 16) (k 16))) X_am9191 M_am9191 F_am9191 S_am9191 N_am9191 X_fm0_piled X_fm0_clock X_fm0_groups X_fm0_wrong X_am9196 X_am9197 X_am9198 X_am9199 X_am91910 X_am91911 X_am91912 X_am91913 (ab_add (ab_mul 32 X_x14) X_x6) 16) (k 16))) X_am9191 M_am9191 F_am9191 S_am9191 N_am9191 X_fm0_piled X_fm0_clock X_fm0_groups X_fm0_wrong X_am9196 X_am9197 X_am9198 X_am9199 X_am91910 X_am91911 X_am91912 X_am91913 X_x15 X_x6 18) (k 16))) X_am9191 M_am9191 F_am9191 S_am9191 N_am9191 X_fm0_piled X_fm0_clock X_fm0_groups X_fm0_wrong X_am9196 X_am9197 X_am9198 X_am9199 X_am91910 X_am91911 X_am91912 X_am91913 X_x14 (ab_and (ab_add X_x6 17) 19) 18) (k 16))) X_am9191 M_am9191 F_am9191 S_am9191 N_am9191 X_fm0_piled X_fm0_clock X_fm0_groups X_fm0_wrong X_am9196 X_am9197 X_am9198 X_am9199 X_am91910 X_am91911 X_am91912 X_am91913 X_x15 20 17) (k 16))) X_am9191 M_am9191 F_am9191 S_am9191 N_am9191 X_fm0_piled X_fm0_clock X_fm0_groups X_fm0_wrong X_am9196 X_am9197 X_am9198 X_am9199 X_am91910 X_am91911 X_am91912 X_am91913 X_x14 X_x6 16) (k 16))
theorem sz_lawOf_933 {e : Nat → Int32} {post : Int32 → St0 → Prop} {k : Nat → Bool} {mc ms kc ks : Nat} {cut_wL_lawOf_1224 : Nat → Nat → Nat → Nat → Nat → Nat → Nat → Nat → Nat → Nat → Nat → Nat → Nat → Nat → Nat → Nat → Nat → Bool} {X_x6 X_x8 X_x14 X_x15 X_z0 X_z1 X_fm0_piled X_fm0_clock X_fm0_groups X_fm0_wrong X_am9191 M_am9191 F_am9191 S_am9191 N_am9191 X_am9196 X_am9197 X_am9198 X_am9199 X_am91910 X_am91911 X_am91912 X_am91913 : Nat} {x6 x8 x14 x15 z0 z1 fm0_op fm0_piled fm0_clock fm0_groups fm0_wrong : Int32} {am9191 am9192 am9193 am9194 am9195 am9196 am9197 am9198 am9199 am91910 am91911 am91912 am91913 : Nat → Int32} (hb : bz_lawOf_933 k cut_wL_lawOf_1224 X_x6 X_x8 X_x14 X_x15 X_z0 X_z1 X_fm0_piled X_fm0_clock X_fm0_groups X_fm0_wrong X_am9191 M_am9191 F_am9191 S_am9191 N_am9191 X_am9196 X_am9197 X_am9198 X_am9199 X_am91910 X_am91911 X_am91912 X_am91913 = true) (hk : ∀ ⦃R : Nat⦄ ⦃r : Int32⦄, k R = true → ab_rv e R r → post r ()) (hcut_wL_lawOf_1224 : ∀ ⦃X_fm0_piled X_fm0_clock X_fm0_groups X_fm0_wrong X_am6961 M_am6961 F_am6961 S_am6961 N_am6961 X_am6966 X_am6967 X_am6968 X_am6969 X_am69610 X_am69611 X_am69612 X_am69613 : Nat⦄ ⦃fm0_op fm0_piled fm0_clock fm0_groups fm0_wrong : Int32⦄ ⦃am6961 am6962 am6963 am6964 am6965 am6966 am6967 am6968 am6969 am69610 am69611 am69612 am69613 : Nat → Int32⦄, cut_wL_lawOf_1224 X_fm0_piled X_fm0_clock X_fm0_groups X_fm0_wrong X_am6961 M_am6961 F_am6961 S_am6961 N_am6961 X_am6966 X_am6967 X_am6968 X_am6969 X_am69610 X_am69611 X_am69612 X_am69613 = true → ab_rv e X_fm0_piled fm0_piled → ab_rv e X_fm0_clock fm0_clock → ab_rv e X_fm0_groups fm0_groups → ab_rv e X_fm0_wrong fm0_wrong → ab_rg e X_am6961 M_am6961 F_am6961 S_am6961 N_am6961 fm0_op am6961 am6962 am6963 am6964 am6965 → ab_ra e 12 X_am6966 am6966 → ab_ra e 12 X_am6967 am6967 → ab_ra e 12 X_am6968 am6968 → ab_ra e 12 X_am6969 am6969 → ab_ra e 12 X_am69610 am69610 → ab_ra e 12 X_am69611 am69611 → ab_ra e 12 X_am69612 am69612 → ab_ra e 12 X_am69613 am69613 → ∃ fu : Nat, wL_lawOf_1224 post mc ms kc ks fu 0 fm0_op fm0_piled fm0_clock fm0_groups fm0_wrong am6961 am6962 am6963 am6964 am6965 am6966 am6967 am6968 am6969 am69610 am69611 am69612 am69613) (h_x6 : ab_rv e X_x6 x6) (h_x8 : ab_rv e X_x8 x8) (h_x14 : ab_rv e X_x14 x14) (h_x15 : ab_rv e X_x15 x15) (h_z0 : ab_rv e X_z0 z0) (h_z1 : ab_rv e X_z1 z1) (h_fm0_piled : ab_rv e X_fm0_piled fm0_piled) (h_fm0_clock : ab_rv e X_fm0_clock fm0_clock) (h_fm0_groups : ab_rv e X_fm0_groups fm0_groups) (h_fm0_wrong : ab_rv e X_fm0_wrong fm0_wrong) (g_am9191 : ab_rg e X_am9191 M_am9191 F_am9191 S_am9191 N_am9191 fm0_op am9191 am9192 am9193 am9194 am9195) (h_am9196 : ab_ra e 12 X_am9196 am9196) (h_am9197 : ab_ra e 12 X_am9197 am9197) (h_am9198 : ab_ra e 12 X_am9198 am9198) (h_am9199 : ab_ra e 12 X_am9199 am9199) (h_am91910 : ab_ra e 12 X_am91910 am91910) (h_am91911 : ab_ra e 12 X_am91911 am91911) (h_am91912 : ab_ra e 12 X_am91912 am91912) (h_am91913 : ab_ra e 12 X_am91913 am91913) : wL_lawOf_933 post mc ms x6 x8 x14 x15 z0 z1 kc ks fm0_op fm0_piled fm0_clock fm0_groups fm0_wrong am9191 am9192 am9193 am9194 am9195 am9196 am9197 am9198 am9199 am91910 am91911 am91912 am91913 := by
  refine ab_eqS hb h_z1 h_z0 (fun hb => ?_) (fun hb => ?_)
  · refine sz_degree hb ?_ g_am9191 h_fm0_piled h_fm0_clock h_fm0_groups h_fm0_wrong h_am9196 h_am9197 h_am9198 h_am9199 h_am91910 h_am91911 h_am91912 h_am91913 h_x14 h_x6 ab_l0
    intro X_r_1412 r_1412 hb h_r_1412
    refine ab_eqS hb h_r_1412 ab_l1 (fun hb => ?_) (fun hb => ?_)
    · refine sz_degree hb ?_ g_am9191 h_fm0_piled h_fm0_clock h_fm0_groups h_fm0_wrong h_am9196 h_am9197 h_am9198 h_am9199 h_am91910 h_am91911 h_am91912 h_am91913 h_x15 ab_l4 ab_l1
      intro X_r_1414 r_1414 hb h_r_1414
      refine ab_eqS hb h_r_1414 ab_l1 (fun hb => ?_) (fun hb => ?_)
      · refine sz_degree hb ?_ g_am9191 h_fm0_piled h_fm0_clock h_fm0_groups h_fm0_wrong h_am9196 h_am9197 h_am9198 h_am9199 h_am91910 h_am91911 h_am91912 h_am91913 h_x14 (ab_andS (ab_addS h_x6 ab_l1) ab_l3) ab_l2
        intro X_r_1416 r_1416 hb h_r_1416
        refine ab_eqS hb h_r_1416 ab_l0 (fun hb => ?_) (fun hb => ?_)
        · refine sz_degree hb ?_ g_am9191 h_fm0_piled h_fm0_clock h_fm0_groups h_fm0_wrong h_am9196 h_am9197 h_am9198 h_am9199 h_am91910 h_am91911 h_am91912 h_am91913 h_x15 h_x6 ab_l2
          intro X_r_1418 r_1418 hb h_r_1418
          refine ab_eqS hb h_r_1418 ab_l1 (fun hb => ?_) (fun hb => ?_)
          · refine sz_arrowAt hb ?_ g_am9191 h_fm0_piled h_fm0_clock h_fm0_groups h_fm0_wrong h_am9196 h_am9197 h_am9198 h_am9199 h_am91910 h_am91911 h_am91912 h_am91913 (ab_addS (ab_mulS ab_l16 h_x14) h_x6) ab_l0
            intro X_r_1420 r_1420 hb h_r_1420
            refine ab_eqS hb h_r_1420 ab_l0 (fun hb => ?_) (fun hb => ?_)
            · refine sz_arrowAt hb ?_ g_am9191 h_fm0_piled h_fm0_clock h_fm0_groups h_fm0_wrong h_am9196 h_am9197 h_am9198 h_am9199 h_am91910 h_am91911 h_am91912 h_am91913 (ab_addS (ab_mulS ab_l16 (ab_addS ab_l24 h_x15)) ab_l4) ab_l0
              intro X_r_1422 r_1422 hb h_r_1422
              refine ab_eqS hb h_r_1422 ab_l0 (fun hb => ?_) (fun hb => ?_)
              · refine sz_arrowAt hb ?_ g_am9191 h_fm0_piled h_fm0_clock h_fm0_groups h_fm0_wrong h_am9196 h_am9197 h_am9198 h_am9199 h_am91910 h_am91911 h_am91912 h_am91913 (ab_addS (ab_mulS ab_l16 (ab_addS ab_l12 h_x15)) h_x6) ab_l1
                intro X_r_1424 r_1424 hb h_r_1424
                refine ab_eqS hb h_r_1424 ab_m2 (fun hb => ?_) (fun hb => ?_)
                · refine sz_arrowAt hb ?_ g_am9191 h_fm0_piled h_fm0_clock h_fm0_groups h_fm0_wrong h_am9196 h_am9197 h_am9198 h_am9199 h_am91910 h_am91911 h_am91912 h_am91913 (ab_addS (ab_mulS ab_l16 h_x14) ab_l5) ab_l0
                  intro X_r_1426 r_1426 hb h_r_1426
                  refine ab_eqS hb h_r_1426 ab_m1 (fun hb => ?_) (fun hb => ?_)
                  · refine sz_arrowAt hb ?_ g_am9191 h_fm0_piled h_fm0_clock h_fm0_groups h_fm0_wrong h_am9196 h_am9197 h_am9198 h_am9199 h_am91910 h_am91911 h_am91912 h_am91913 ab_l576 ab_l0
                    intro X_r_1428 r_1428 hb h_r_1428
                    refine ab_eqS hb h_r_1428 ab_m1 (fun hb => ?_) (fun hb => ?_)
                    · refine sz_drop hb ?_ g_am9191 h_fm0_piled h_fm0_clock h_fm0_groups h_fm0_wrong h_am9196 h_am9197 h_am9198 h_am9199 h_am91910 h_am91911 h_am91912 h_am91913 h_x15 ab_l0
                      intro X_r_1430 X_am10891_1438 M_am10891_1438 F_am10891_1438 S_am10891_1438 N_am10891_1438 X_fm0_piled_1432 X_fm0_clock_1433 X_fm0_groups_1434 X_fm0_wrong_1435 X_am10896_1453 X_am10897_1456 X_am10898_1459 X_am10899_1462 X_am108910_1465 X_am108911_1468 X_am108912_1471 X_am108913_1474 r_1430 fm0_op_1431 fm0_piled_1432 fm0_clock_1433 fm0_groups_1434 fm0_wrong_1435 am10891_1438 am10892_1441 am10893_1444 am10894_1447 am10895_1450 am10896_1453 am10897_1456 am10898_1459 am10899_1462 am108910_1465 am108911_1468 am108912_1471 am108913_1474 hb h_r_1430 g_am10891_1438 h_fm0_piled_1432 h_fm0_clock_1433 h_fm0_groups_1434 h_fm0_wrong_1435 h_am10896_1453 h_am10897_1456 h_am10898_1459 h_am10899_1462 h_am108910_1465 h_am108911_1468 h_am108912_1471 h_am108913_1474
                      refine ab_eqS hb h_r_1430 ab_m4 (fun hb => ?_) (fun hb => ?_)
                      · refine sz_setWeight hb ?_ g_am10891_1438 h_fm0_piled_1432 h_fm0_clock_1433 h_fm0_groups_1434 h_fm0_wrong_1435 h_am10896_1453 h_am10897_1456 h_am10898_1459 h_am10899_1462 h_am108910_1465 h_am108911_1468 h_am108912_1471 h_am108913_1474 ab_l0 ab_l100
                        intro X_r_1476 X_am11021_1484 M_am11021_1484 F_am11021_1484 S_am11021_1484 N_am11021_1484 X_fm0_piled_1478 X_fm0_clock_1479 X_fm0_groups_1480 X_fm0_wrong_1481 X_am11026_1499 X_am11027_1502 X_am11028_1505 X_am11029_1508 X_am110210_1511 X_am110211_1514 X_am110212_1517 X_am110213_1520 r_1476 fm0_op_1477 fm0_piled_1478 fm0_clock_1479 fm0_groups_1480 fm0_wrong_1481 am11021_1484 am11022_1487 am11023_1490 am11024_1493 am11025_1496 am11026_1499 am11027_1502 am11028_1505 am11029_1508 am110210_1511 am110211_1514 am110212_1517 am110213_1520 hb h_r_1476 g_am11021_1484 h_fm0_piled_1478 h_fm0_clock_1479 h_fm0_groups_1480 h_fm0_wrong_1481 h_am11026_1499 h_am11027_1502 h_am11028_1505 h_am11029_1508 h_am110210_1511 h_am110211_1514 h_am110212_1517 h_am110213_1520
                        refine ab_eqS hb h_r_1476 ab_m1 (fun hb => ?_) (fun hb => ?_)
                        · refine sz_setWeight hb ?_ g_am11021_1484 h_fm0_piled_1478 h_fm0_clock_1479 h_fm0_groups_1480 h_fm0_wrong_1481 h_am11026_1499 h_am11027_1502 h_am11028_1505 h_am11029_1508 h_am110210_1511 h_am110211_1514 h_am110212_1517 h_am110213_1520 ab_l0 ab_l99
                          intro X_r_1522 X_am11141_1530 M_am11141_1530 F_am11141_1530 S_am11141_1530 N_am11141_1530 X_fm0_piled_1524 X_fm0_clock_1525 X_fm0_groups_1526 X_fm0_wrong_1527 X_am11146_1545 X_am11147_1548 X_am11148_1551 X_am11149_1554 X_am111410_1557 X_am111411_1560 X_am111412_1563 X_am111413_1566 r_1522 fm0_op_1523 fm0_piled_1524 fm0_clock_1525 fm0_groups_1526 fm0_wrong_1527 am11141_1530 am11142_1533 am11143_1536 am11144_1539 am11145_1542 am11146_1545 am11147_1548 am11148_1551 am11149_1554 am111410_1557 am111411_1560 am111412_1563 am111413_1566 hb h_r_1522 g_am11141_1530 h_fm0_piled_1524 h_fm0_clock_1525 h_fm0_groups_1526 h_fm0_wrong_1527 h_am11146_1545 h_am11147_1548 h_am11148_1551 h_am11149_1554 h_am111410_1557 h_am111411_1560 h_am111412_1563 h_am111413_1566
                          refine ab_eqS hb h_r_1522 h_x8 (fun hb => ?_) (fun hb => ?_)
                          · refine sz_begin hb ?_ g_am11141_1530 h_fm0_piled_1524 h_fm0_clock_1525 h_fm0_groups_1526 h_fm0_wrong_1527 h_am11146_1545 h_am11147_1548 h_am11148_1551 h_am11149_1554 h_am111410_1557 h_am111411_1560 h_am111412_1563 h_am111413_1566
                            intro X_r_1568 X_am11241_1576 M_am11241_1576 F_am11241_1576 S_am11241_1576 N_am11241_1576 X_fm0_piled_1570 X_fm0_clock_1571 X_fm0_groups_1572 X_fm0_wrong_1573 X_am11246_1591 X_am11247_1594 X_am11248_1597 X_am11249_1600 X_am112410_1603 X_am112411_1606 X_am112412_1609 X_am112413_1612 r_1568 fm0_op_1569 fm0_piled_1570 fm0_clock_1571 fm0_groups_1572 fm0_wrong_1573 am11241_1576 am11242_1579 am11243_1582 am11244_1585 am11245_1588 am11246_1591 am11247_1594 am11248_1597 am11249_1600 am112410_1603 am112411_1606 am112412_1609 am112413_1612 hb h_r_1568 g_am11241_1576 h_fm0_piled_1570 h_fm0_clock_1571 h_fm0_groups_1572 h_fm0_wrong_1573 h_am11246_1591 h_am11247_1594 h_am11248_1597 h_am11249_1600 h_am112410_1603 h_am112411_1606 h_am112412_1609 h_am112413_1612
                            refine ab_eqS hb h_r_1568 ab_l1 (fun hb => ?_) (fun hb => ?_)
                            · refine sz_drop hb ?_ g_am11241_1576 h_fm0_piled_1570 h_fm0_clock_1571 h_fm0_groups_1572 h_fm0_wrong_1573 h_am11246_1591 h_am11247_1594 h_am11248_1597 h_am11249_1600 h_am112410_1603 h_am112411_1606 h_am112412_1609 h_am112413_1612 h_x14 ab_l1
                              intro X_r_1614 X_am11361_1622 M_am11361_1622 F_am11361_1622 S_am11361_1622 N_am11361_1622 X_fm0_piled_1616 X_fm0_clock_1617 X_fm0_groups_1618 X_fm0_wrong_1619 X_am11366_1637 X_am11367_1640 X_am11368_1643 X_am11369_1646 X_am113610_1649 X_am113611_1652 X_am113612_1655 X_am113613_1658 r_1614 fm0_op_1615 fm0_piled_1616 fm0_clock_1617 fm0_groups_1618 fm0_wrong_1619 am11361_1622 am11362_1625 am11363_1628 am11364_1631 am11365_1634 am11366_1637 am11367_1640 am11368_1643 am11369_1646 am113610_1649 am113611_1652 am113612_1655 am113613_1658 hb h_r_1614 g_am11361_1622 h_fm0_piled_1616 h_fm0_clock_1617 h_fm0_groups_1618 h_fm0_wrong_1619 h_am11366_1637 h_am11367_1640 h_am11368_1643 h_am11369_1646 h_am113610_1649 h_am113611_1652 h_am113612_1655 h_am113613_1658
                              refine ab_eqS hb h_r_1614 ab_l1 (fun hb => ?_) (fun hb => ?_)
                              · refine sz_labels hb ?_ g_am11361_1622 h_fm0_piled_1616 h_fm0_clock_1617 h_fm0_groups_1618 h_fm0_wrong_1619 h_am11366_1637 h_am11367_1640 h_am11368_1643 h_am11369_1646 h_am113610_1649 h_am113611_1652 h_am113612_1655 h_am113613_1658 h_x14
                                intro X_r_1660 r_1660 hb h_r_1660
                                refine ab_eqS hb h_r_1660 ab_m1 (fun hb => ?_) (fun hb => ?_)
                                · refine sz_look hb ?_ g_am11361_1622 h_fm0_piled_1616 h_fm0_clock_1617 h_fm0_groups_1618 h_fm0_wrong_1619 h_am11366_1637 h_am11367_1640 h_am11368_1643 h_am11369_1646 h_am113610_1649 h_am113611_1652 h_am113612_1655 h_am113613_1658 ab_l0 ab_l0
                                  intro X_r_1662 r_1662 hb h_r_1662
                                  refine ab_eqS hb h_r_1662 ab_m1 (fun hb => ?_) (fun hb => ?_)
                                  · refine sz_undo hb ?_ g_am11361_1622 h_fm0_piled_1616 h_fm0_clock_1617 h_fm0_groups_1618 h_fm0_wrong_1619 h_am11366_1637 h_am11367_1640 h_am11368_1643 h_am11369_1646 h_am113610_1649 h_am113611_1652 h_am113612_1655 h_am113613_1658
                                    intro X_r_1664 X_am11671_1672 M_am11671_1672 F_am11671_1672 S_am11671_1672 N_am11671_1672 X_fm0_piled_1666 X_fm0_clock_1667 X_fm0_groups_1668 X_fm0_wrong_1669 X_am11676_1687 X_am11677_1690 X_am11678_1693 X_am11679_1696 X_am116710_1699 X_am116711_1702 X_am116712_1705 X_am116713_1708 r_1664 fm0_op_1665 fm0_piled_1666 fm0_clock_1667 fm0_groups_1668 fm0_wrong_1669 am11671_1672 am11672_1675 am11673_1678 am11674_1681 am11675_1684 am11676_1687 am11677_1690 am11678_1693 am11679_1696 am116710_1699 am116711_1702 am116712_1705 am116713_1708 hb h_r_1664 g_am11671_1672 h_fm0_piled_1666 h_fm0_clock_1667 h_fm0_groups_1668 h_fm0_wrong_1669 h_am11676_1687 h_am11677_1690 h_am11678_1693 h_am11679_1696 h_am116710_1699 h_am116711_1702 h_am116712_1705 h_am116713_1708
                                    refine ab_eqS hb h_r_1664 ab_l0 (fun hb => ?_) (fun hb => ?_)
                                    · refine sz_look hb ?_ g_am11671_1672 h_fm0_piled_1666 h_fm0_clock_1667 h_fm0_groups_1668 h_fm0_wrong_1669 h_am11676_1687 h_am11677_1690 h_am11678_1693 h_am11679_1696 h_am116710_1699 h_am116711_1702 h_am116712_1705 h_am116713_1708 ab_l0 ab_l3
                                      intro X_r_1710 r_1710 hb h_r_1710
                                      refine ab_eqS hb h_r_1710 ab_l99 (fun hb => ?_) (fun hb => ?_)
                                      · refine sz_cut hb ?_ g_am11671_1672 h_fm0_piled_1666 h_fm0_clock_1667 h_fm0_groups_1668 h_fm0_wrong_1669 h_am11676_1687 h_am11677_1690 h_am11678_1693 h_am11679_1696 h_am116710_1699 h_am116711_1702 h_am116712_1705 h_am116713_1708 ab_l0
                                        intro X_r_1712 X_am11881_1720 M_am11881_1720 F_am11881_1720 S_am11881_1720 N_am11881_1720 X_fm0_piled_1714 X_fm0_clock_1715 X_fm0_groups_1716 X_fm0_wrong_1717 X_am11886_1735 X_am11887_1738 X_am11888_1741 X_am11889_1744 X_am118810_1747 X_am118811_1750 X_am118812_1753 X_am118813_1756 r_1712 fm0_op_1713 fm0_piled_1714 fm0_clock_1715 fm0_groups_1716 fm0_wrong_1717 am11881_1720 am11882_1723 am11883_1726 am11884_1729 am11885_1732 am11886_1735 am11887_1738 am11888_1741 am11889_1744 am118810_1747 am118811_1750 am118812_1753 am118813_1756 hb h_r_1712 g_am11881_1720 h_fm0_piled_1714 h_fm0_clock_1715 h_fm0_groups_1716 h_fm0_wrong_1717 h_am11886_1735 h_am11887_1738 h_am11888_1741 h_am11889_1744 h_am118810_1747 h_am118811_1750 h_am118812_1753 h_am118813_1756
                                        refine ab_eqS hb h_r_1712 ab_l0 (fun hb => ?_) (fun hb => ?_)
                                        · refine sz_drop hb ?_ g_am11881_1720 h_fm0_piled_1714 h_fm0_clock_1715 h_fm0_groups_1716 h_fm0_wrong_1717 h_am11886_1735 h_am11887_1738 h_am11888_1741 h_am11889_1744 h_am118810_1747 h_am118811_1750 h_am118812_1753 h_am118813_1756 h_x15 ab_l0
                                          intro X_r_1758 X_am11991_1766 M_am11991_1766 F_am11991_1766 S_am11991_1766 N_am11991_1766 X_fm0_piled_1760 X_fm0_clock_1761 X_fm0_groups_1762 X_fm0_wrong_1763 X_am11996_1781 X_am11997_1784 X_am11998_1787 X_am11999_1790 X_am119910_1793 X_am119911_1796 X_am119912_1799 X_am119913_1802 r_1758 fm0_op_1759 fm0_piled_1760 fm0_clock_1761 fm0_groups_1762 fm0_wrong_1763 am11991_1766 am11992_1769 am11993_1772 am11994_1775 am11995_1778 am11996_1781 am11997_1784 am11998_1787 am11999_1790 am119910_1793 am119911_1796 am119912_1799 am119913_1802 hb h_r_1758 g_am11991_1766 h_fm0_piled_1760 h_fm0_clock_1761 h_fm0_groups_1762 h_fm0_wrong_1763 h_am11996_1781 h_am11997_1784 h_am11998_1787 h_am11999_1790 h_am119910_1793 h_am119911_1796 h_am119912_1799 h_am119913_1802
                                          refine ab_eqS hb h_r_1758 ab_l0 (fun hb => ?_) (fun hb => ?_)
                                          · refine sz_node hb ?_ g_am11991_1766 h_fm0_piled_1760 h_fm0_clock_1761 h_fm0_groups_1762 h_fm0_wrong_1763 h_am11996_1781 h_am11997_1784 h_am11998_1787 h_am11999_1790 h_am119910_1793 h_am119911_1796 h_am119912_1799 h_am119913_1802 ab_l7 ab_l7
                                            intro X_r_1804 X_am12111_1812 M_am12111_1812 F_am12111_1812 S_am12111_1812 N_am12111_1812 X_fm0_piled_1806 X_fm0_clock_1807 X_fm0_groups_1808 X_fm0_wrong_1809 X_am12116_1827 X_am12117_1830 X_am12118_1833 X_am12119_1836 X_am121110_1839 X_am121111_1842 X_am121112_1845 X_am121113_1848 r_1804 fm0_op_1805 fm0_piled_1806 fm0_clock_1807 fm0_groups_1808 fm0_wrong_1809 am12111_1812 am12112_1815 am12113_1818 am12114_1821 am12115_1824 am12116_1827 am12117_1830 am12118_1833 am12119_1836 am121110_1839 am121111_1842 am121112_1845 am121113_1848 hb h_r_1804 g_am12111_1812 h_fm0_piled_1806 h_fm0_clock_1807 h_fm0_groups_1808 h_fm0_wrong_1809 h_am12116_1827 h_am12117_1830 h_am12118_1833 h_am12119_1836 h_am121110_1839 h_am121111_1842 h_am121112_1845 h_am121113_1848
                                            refine ab_eqS hb h_r_1804 h_x15 (fun hb => ?_) (fun hb => ?_)
                                            · exact hcut_wL_lawOf_1224 hb h_fm0_piled_1806 h_fm0_clock_1807 h_fm0_groups_1808 h_fm0_wrong_1809 g_am12111_1812 h_am12116_1827 h_am12117_1830 h_am12118_1833 h_am12119_1836 h_am121110_1839 h_am121111_1842 h_am121112_1845 h_am121113_1848
                                            · exact hk hb ab_l0
                                          · exact hk hb ab_l0
                                        · exact hk hb ab_l0
                                      · exact hk hb ab_l0
                                    · exact hk hb ab_l0
                                  · exact hk hb ab_l0
                                · exact hk hb ab_l0
                              · exact hk hb ab_l0
                            · exact hk hb ab_l0
                          · exact hk hb ab_l0
                        · exact hk hb ab_l0
                      · exact hk hb ab_l0
                    · exact hk hb ab_l0
                  · exact hk hb ab_l0
                · exact hk hb ab_l0
              · exact hk hb ab_l0
            · exact hk hb ab_l0
          · exact hk hb ab_l0
        · exact hk hb ab_l0
      · exact hk hb ab_l0
    · exact hk hb ab_l0
  · exact hk hb ab_l0
noncomputable def bz_lawOf_895 (k : Nat → Bool) (cut_wL_lawOf_1224 : Nat → Nat → Nat → Nat → Nat → Nat → Nat → Nat → Nat → Nat → Nat → Nat → Nat → Nat → Nat → Nat → Nat → Bool) (X_x6 X_x7 X_x8 X_x12 X_x13 X_fm0_piled X_fm0_clock X_fm0_groups X_fm0_wrong X_am6961 M_am6961 F_am6961 S_am6961 N_am6961 X_am6966 X_am6967 X_am6968 X_am6969 X_am69610 X_am69611 X_am69612 X_am69613 : Nat) : Bool :=
  (ab_eq X_x12 16 (cut_wL_lawOf_1224 X_fm0_piled X_fm0_clock X_fm0_groups X_fm0_wrong X_am6961 M_am6961 F_am6961 S_am6961 N_am6961 X_am6966 X_am6967 X_am6968 X_am6969 X_am69610 X_am69611 X_am69612 X_am69613) (ab_str (ab_div X_x7 28) (fun X_x14_1362 => (ab_str (ab_sub X_x7 (ab_mul (ab_div X_x7 28) 28)) (fun X_x15_1364 => (bz_cheapest (fun X_r_1365 X_am9191_1373 M_am9191_1373 F_am9191_1373 S_am9191_1373 N_am9191_1373 X_fm0_piled_1367 X_fm0_clock_1368 X_fm0_groups_1369 X_fm0_wrong_1370 X_am9196_1388 X_am9197_1391 X_am9198_1394 X_am9199_1397 X_am91910_1400 X_am91911_1403 X_am91912_1406 X_am91913_1409 => (ab_eq X_x13 16 (bz_lawOf_933 k cut_wL_lawOf_1224 X_x6 X_x8 X_x14_1362 X_x15_1364 X_x8 X_r_1365 X_fm0_piled_1367 X_fm0_clock_1368 X_fm0_groups_1369 X_fm0_wrong_1370 X_am9191_1373 M_am9191_1373 F_am9191_1373 S_am9191_1373 N_am9191_1373 X_am9196_1388 X_am9197_1391 X_am9198_1394 X_am9199_1397 X_am91910_1400 X_am91911_1403 X_am91912_1406 X_am91913_1409) (bz_lawOf_933 k cut_wL_lawOf_1224 X_x6 X_x8 X_x14_1362 X_x15_1364 16 X_r_1365 X_fm0_piled_1367 X_fm0_clock_1368 X_fm0_groups_1369 X_fm0_wrong_1370 X_am9191_1373 M_am9191_1373 F_am9191_1373 S_am9191_1373 N_am9191_1373 X_am9196_1388 X_am9197_1391 X_am9198_1394 X_am9199_1397 X_am91910_1400 X_am91911_1403 X_am91912_1406 X_am91913_1409))) X_am6961 M_am6961 F_am6961 S_am6961 N_am6961 X_fm0_piled X_fm0_clock X_fm0_groups X_fm0_wrong X_am6966 X_am6967 X_am6968 X_am6969 X_am69610 X_am69611 X_am69612 X_am69613 X_x7 20))))))
theorem sz_lawOf_895 {e : Nat → Int32} {post : Int32 → St0 → Prop} {k : Nat → Bool} {mc ms kc ks : Nat} {cut_wL_lawOf_1224 : Nat → Nat → Nat → Nat → Nat → Nat → Nat → Nat → Nat → Nat → Nat → Nat → Nat → Nat → Nat → Nat → Nat → Bool} {X_x6 X_x7 X_x8 X_x12 X_x13 X_fm0_piled X_fm0_clock X_fm0_groups X_fm0_wrong X_am6961 M_am6961 F_am6961 S_am6961 N_am6961 X_am6966 X_am6967 X_am6968 X_am6969 X_am69610 X_am69611 X_am69612 X_am69613 : Nat} {x6 x7 x8 x12 x13 fm0_op fm0_piled fm0_clock fm0_groups fm0_wrong : Int32} {am6961 am6962 am6963 am6964 am6965 am6966 am6967 am6968 am6969 am69610 am69611 am69612 am69613 : Nat → Int32} (hb : bz_lawOf_895 k cut_wL_lawOf_1224 X_x6 X_x7 X_x8 X_x12 X_x13 X_fm0_piled X_fm0_clock X_fm0_groups X_fm0_wrong X_am6961 M_am6961 F_am6961 S_am6961 N_am6961 X_am6966 X_am6967 X_am6968 X_am6969 X_am69610 X_am69611 X_am69612 X_am69613 = true) (hk : ∀ ⦃R : Nat⦄ ⦃r : Int32⦄, k R = true → ab_rv e R r → post r ()) (hcut_wL_lawOf_1224 : ∀ ⦃X_fm0_piled X_fm0_clock X_fm0_groups X_fm0_wrong X_am6961 M_am6961 F_am6961 S_am6961 N_am6961 X_am6966 X_am6967 X_am6968 X_am6969 X_am69610 X_am69611 X_am69612 X_am69613 : Nat⦄ ⦃fm0_op fm0_piled fm0_clock fm0_groups fm0_wrong : Int32⦄ ⦃am6961 am6962 am6963 am6964 am6965 am6966 am6967 am6968 am6969 am69610 am69611 am69612 am69613 : Nat → Int32⦄, cut_wL_lawOf_1224 X_fm0_piled X_fm0_clock X_fm0_groups X_fm0_wrong X_am6961 M_am6961 F_am6961 S_am6961 N_am6961 X_am6966 X_am6967 X_am6968 X_am6969 X_am69610 X_am69611 X_am69612 X_am69613 = true → ab_rv e X_fm0_piled fm0_piled → ab_rv e X_fm0_clock fm0_clock → ab_rv e X_fm0_groups fm0_groups → ab_rv e X_fm0_wrong fm0_wrong → ab_rg e X_am6961 M_am6961 F_am6961 S_am6961 N_am6961 fm0_op am6961 am6962 am6963 am6964 am6965 → ab_ra e 12 X_am6966 am6966 → ab_ra e 12 X_am6967 am6967 → ab_ra e 12 X_am6968 am6968 → ab_ra e 12 X_am6969 am6969 → ab_ra e 12 X_am69610 am69610 → ab_ra e 12 X_am69611 am69611 → ab_ra e 12 X_am69612 am69612 → ab_ra e 12 X_am69613 am69613 → ∃ fu : Nat, wL_lawOf_1224 post mc ms kc ks fu 0 fm0_op fm0_piled fm0_clock fm0_groups fm0_wrong am6961 am6962 am6963 am6964 am6965 am6966 am6967 am6968 am6969 am69610 am69611 am69612 am69613) (h_x6 : ab_rv e X_x6 x6) (h_x7 : ab_rv e X_x7 x7) (h_x8 : ab_rv e X_x8 x8) (h_x12 : ab_rv e X_x12 x12) (h_x13 : ab_rv e X_x13 x13) (h_fm0_piled : ab_rv e X_fm0_piled fm0_piled) (h_fm0_clock : ab_rv e X_fm0_clock fm0_clock) (h_fm0_groups : ab_rv e X_fm0_groups fm0_groups) (h_fm0_wrong : ab_rv e X_fm0_wrong fm0_wrong) (g_am6961 : ab_rg e X_am6961 M_am6961 F_am6961 S_am6961 N_am6961 fm0_op am6961 am6962 am6963 am6964 am6965) (h_am6966 : ab_ra e 12 X_am6966 am6966) (h_am6967 : ab_ra e 12 X_am6967 am6967) (h_am6968 : ab_ra e 12 X_am6968 am6968) (h_am6969 : ab_ra e 12 X_am6969 am6969) (h_am69610 : ab_ra e 12 X_am69610 am69610) (h_am69611 : ab_ra e 12 X_am69611 am69611) (h_am69612 : ab_ra e 12 X_am69612 am69612) (h_am69613 : ab_ra e 12 X_am69613 am69613) : wL_lawOf_895 post mc ms x6 x7 x8 x12 x13 kc ks fm0_op fm0_piled fm0_clock fm0_groups fm0_wrong am6961 am6962 am6963 am6964 am6965 am6966 am6967 am6968 am6969 am69610 am69611 am69612 am69613 := by
  refine ab_eqS hb h_x12 ab_l0 (fun hb => ?_) (fun hb => ?_)
  · exact hcut_wL_lawOf_1224 hb h_fm0_piled h_fm0_clock h_fm0_groups h_fm0_wrong g_am6961 h_am6966 h_am6967 h_am6968 h_am6969 h_am69610 h_am69611 h_am69612 h_am69613
  · refine ab_d12 ?_
    refine ab_letS hb (ab_divS h_x7 ab_l12) ?_
    intro X_x14_1362 x14_1362 hb h_x14_1362
    refine ab_d12 ?_
    refine ab_letS hb (ab_subS h_x7 (ab_mulS (ab_divS h_x7 ab_l12) ab_l12)) ?_
    intro X_x15_1364 x15_1364 hb h_x15_1364
    refine sz_cheapest hb ?_ g_am6961 h_fm0_piled h_fm0_clock h_fm0_groups h_fm0_wrong h_am6966 h_am6967 h_am6968 h_am6969 h_am69610 h_am69611 h_am69612 h_am69613 h_x7 ab_l4
    intro X_r_1365 X_am9191_1373 M_am9191_1373 F_am9191_1373 S_am9191_1373 N_am9191_1373 X_fm0_piled_1367 X_fm0_clock_1368 X_fm0_groups_1369 X_fm0_wrong_1370 X_am9196_1388 X_am9197_1391 X_am9198_1394 X_am9199_1397 X_am91910_1400 X_am91911_1403 X_am91912_1406 X_am91913_1409 r_1365 fm0_op_1366 fm0_piled_1367 fm0_clock_1368 fm0_groups_1369 fm0_wrong_1370 am9191_1373 am9192_1376 am9193_1379 am9194_1382 am9195_1385 am9196_1388 am9197_1391 am9198_1394 am9199_1397 am91910_1400 am91911_1403 am91912_1406 am91913_1409 hb h_r_1365 g_am9191_1373 h_fm0_piled_1367 h_fm0_clock_1368 h_fm0_groups_1369 h_fm0_wrong_1370 h_am9196_1388 h_am9197_1391 h_am9198_1394 h_am9199_1397 h_am91910_1400 h_am91911_1403 h_am91912_1406 h_am91913_1409
    refine ab_eqS hb h_x13 ab_l0 (fun hb => ?_) (fun hb => ?_)
    · exact sz_lawOf_933 hb hk hcut_wL_lawOf_1224 h_x6 h_x8 h_x14_1362 h_x15_1364 h_x8 h_r_1365 h_fm0_piled_1367 h_fm0_clock_1368 h_fm0_groups_1369 h_fm0_wrong_1370 g_am9191_1373 h_am9196_1388 h_am9197_1391 h_am9198_1394 h_am9199_1397 h_am91910_1400 h_am91911_1403 h_am91912_1406 h_am91913_1409
    · exact sz_lawOf_933 hb hk hcut_wL_lawOf_1224 h_x6 h_x8 h_x14_1362 h_x15_1364 ab_l0 h_r_1365 h_fm0_piled_1367 h_fm0_clock_1368 h_fm0_groups_1369 h_fm0_wrong_1370 g_am9191_1373 h_am9196_1388 h_am9197_1391 h_am9198_1394 h_am9199_1397 h_am91910_1400 h_am91911_1403 h_am91912_1406 h_am91913_1409
noncomputable def bz_lawOf_890 (k : Nat → Bool) (cut_wL_lawOf_1224 : Nat → Nat → Nat → Nat → Nat → Nat → Nat → Nat → Nat → Nat → Nat → Nat → Nat → Nat → Nat → Nat → Nat → Bool) (X_x6 X_x7 X_x8 X_x12 X_x13 X_z0 X_z1 X_fm0_piled X_fm0_clock X_fm0_groups X_fm0_wrong X_am8671 M_am8671 F_am8671 S_am8671 N_am8671 X_am8676 X_am8677 X_am8678 X_am8679 X_am86710 X_am86711 X_am86712 X_am86713 : Nat) : Bool :=
  (ab_eq X_z1 X_z0 (bz_lawOf_895 k cut_wL_lawOf_1224 X_x6 X_x7 X_x8 X_x12 X_x13 X_fm0_piled X_fm0_clock X_fm0_groups X_fm0_wrong X_am8671 M_am8671 F_am8671 S_am8671 N_am8671 X_am8676 X_am8677 X_am8678 X_am8679 X_am86710 X_am86711 X_am86712 X_am86713) (k 16))
theorem sz_lawOf_890 {e : Nat → Int32} {post : Int32 → St0 → Prop} {k : Nat → Bool} {mc ms kc ks : Nat} {cut_wL_lawOf_1224 : Nat → Nat → Nat → Nat → Nat → Nat → Nat → Nat → Nat → Nat → Nat → Nat → Nat → Nat → Nat → Nat → Nat → Bool} {X_x6 X_x7 X_x8 X_x12 X_x13 X_z0 X_z1 X_fm0_piled X_fm0_clock X_fm0_groups X_fm0_wrong X_am8671 M_am8671 F_am8671 S_am8671 N_am8671 X_am8676 X_am8677 X_am8678 X_am8679 X_am86710 X_am86711 X_am86712 X_am86713 : Nat} {x6 x7 x8 x12 x13 z0 z1 fm0_op fm0_piled fm0_clock fm0_groups fm0_wrong : Int32} {am8671 am8672 am8673 am8674 am8675 am8676 am8677 am8678 am8679 am86710 am86711 am86712 am86713 : Nat → Int32} (hb : bz_lawOf_890 k cut_wL_lawOf_1224 X_x6 X_x7 X_x8 X_x12 X_x13 X_z0 X_z1 X_fm0_piled X_fm0_clock X_fm0_groups X_fm0_wrong X_am8671 M_am8671 F_am8671 S_am8671 N_am8671 X_am8676 X_am8677 X_am8678 X_am8679 X_am86710 X_am86711 X_am86712 X_am86713 = true) (hk : ∀ ⦃R : Nat⦄ ⦃r : Int32⦄, k R = true → ab_rv e R r → post r ()) (hcut_wL_lawOf_1224 : ∀ ⦃X_fm0_piled X_fm0_clock X_fm0_groups X_fm0_wrong X_am6961 M_am6961 F_am6961 S_am6961 N_am6961 X_am6966 X_am6967 X_am6968 X_am6969 X_am69610 X_am69611 X_am69612 X_am69613 : Nat⦄ ⦃fm0_op fm0_piled fm0_clock fm0_groups fm0_wrong : Int32⦄ ⦃am6961 am6962 am6963 am6964 am6965 am6966 am6967 am6968 am6969 am69610 am69611 am69612 am69613 : Nat → Int32⦄, cut_wL_lawOf_1224 X_fm0_piled X_fm0_clock X_fm0_groups X_fm0_wrong X_am6961 M_am6961 F_am6961 S_am6961 N_am6961 X_am6966 X_am6967 X_am6968 X_am6969 X_am69610 X_am69611 X_am69612 X_am69613 = true → ab_rv e X_fm0_piled fm0_piled → ab_rv e X_fm0_clock fm0_clock → ab_rv e X_fm0_groups fm0_groups → ab_rv e X_fm0_wrong fm0_wrong → ab_rg e X_am6961 M_am6961 F_am6961 S_am6961 N_am6961 fm0_op am6961 am6962 am6963 am6964 am6965 → ab_ra e 12 X_am6966 am6966 → ab_ra e 12 X_am6967 am6967 → ab_ra e 12 X_am6968 am6968 → ab_ra e 12 X_am6969 am6969 → ab_ra e 12 X_am69610 am69610 → ab_ra e 12 X_am69611 am69611 → ab_ra e 12 X_am69612 am69612 → ab_ra e 12 X_am69613 am69613 → ∃ fu : Nat, wL_lawOf_1224 post mc ms kc ks fu 0 fm0_op fm0_piled fm0_clock fm0_groups fm0_wrong am6961 am6962 am6963 am6964 am6965 am6966 am6967 am6968 am6969 am69610 am69611 am69612 am69613) (h_x6 : ab_rv e X_x6 x6) (h_x7 : ab_rv e X_x7 x7) (h_x8 : ab_rv e X_x8 x8) (h_x12 : ab_rv e X_x12 x12) (h_x13 : ab_rv e X_x13 x13) (h_z0 : ab_rv e X_z0 z0) (h_z1 : ab_rv e X_z1 z1) (h_fm0_piled : ab_rv e X_fm0_piled fm0_piled) (h_fm0_clock : ab_rv e X_fm0_clock fm0_clock) (h_fm0_groups : ab_rv e X_fm0_groups fm0_groups) (h_fm0_wrong : ab_rv e X_fm0_wrong fm0_wrong) (g_am8671 : ab_rg e X_am8671 M_am8671 F_am8671 S_am8671 N_am8671 fm0_op am8671 am8672 am8673 am8674 am8675) (h_am8676 : ab_ra e 12 X_am8676 am8676) (h_am8677 : ab_ra e 12 X_am8677 am8677) (h_am8678 : ab_ra e 12 X_am8678 am8678) (h_am8679 : ab_ra e 12 X_am8679 am8679) (h_am86710 : ab_ra e 12 X_am86710 am86710) (h_am86711 : ab_ra e 12 X_am86711 am86711) (h_am86712 : ab_ra e 12 X_am86712 am86712) (h_am86713 : ab_ra e 12 X_am86713 am86713) : wL_lawOf_890 post mc ms x6 x7 x8 x12 x13 z0 z1 kc ks fm0_op fm0_piled fm0_clock fm0_groups fm0_wrong am8671 am8672 am8673 am8674 am8675 am8676 am8677 am8678 am8679 am86710 am86711 am86712 am86713 := by
  refine ab_eqS hb h_z1 h_z0 (fun hb => ?_) (fun hb => ?_)
  · exact sz_lawOf_895 hb hk hcut_wL_lawOf_1224 h_x6 h_x7 h_x8 h_x12 h_x13 h_fm0_piled h_fm0_clock h_fm0_groups h_fm0_wrong g_am8671 h_am8676 h_am8677 h_am8678 h_am8679 h_am86710 h_am86711 h_am86712 h_am86713
  · exact hk hb ab_l0
noncomputable def bz_lawOf_849 (k : Nat → Bool) (cut_wL_lawOf_1224 : Nat → Nat → Nat → Nat → Nat → Nat → Nat → Nat → Nat → Nat → Nat → Nat → Nat → Nat → Nat → Nat → Nat → Bool) (X_x6 X_x7 X_x8 X_x10 X_x11 X_x12 X_z0 X_fm0_piled X_fm0_clock X_fm0_groups X_fm0_wrong X_am6961 M_am6961 F_am6961 S_am6961 N_am6961 X_am6966 X_am6967 X_am6968 X_am6969 X_am69610 X_am69611 X_am69612 X_am69613 : Nat) : Bool :=
  (ab_eq X_x11 16 (bz_lawOf_895 k cut_wL_lawOf_1224 X_x6 X_x7 X_x8 X_x12 X_z0 X_fm0_piled X_fm0_clock X_fm0_groups X_fm0_wrong X_am6961 M_am6961 F_am6961 S_am6961 N_am6961 X_am6966 X_am6967 X_am6968 X_am6969 X_am69610 X_am69611 X_am69612 X_am69613) (ab_eq X_x10 16 (bz_lawOf_895 k cut_wL_lawOf_1224 X_x6 X_x7 X_x8 X_x12 X_z0 X_fm0_piled X_fm0_clock X_fm0_groups X_fm0_wrong X_am6961 M_am6961 F_am6961 S_am6961 N_am6961 X_am6966 X_am6967 X_am6968 X_am6969 X_am69610 X_am69611 X_am69612 X_am69613) (bz_distance (fun X_r_1851 X_am8671_1859 M_am8671_1859 F_am8671_1859 S_am8671_1859 N_am8671_1859 X_fm0_piled_1853 X_fm0_clock_1854 X_fm0_groups_1855 X_fm0_wrong_1856 X_am8676_1874 X_am8677_1877 X_am8678_1880 X_am8679_1883 X_am86710_1886 X_am86711_1889 X_am86712_1892 X_am86713_1895 => (ab_eq X_z0 16 (ab_eq X_x12 16 (bz_lawOf_890 k cut_wL_lawOf_1224 X_x6 X_x7 X_x8 X_x12 X_z0 14 X_r_1851 X_fm0_piled_1853 X_fm0_clock_1854 X_fm0_groups_1855 X_fm0_wrong_1856 X_am8671_1859 M_am8671_1859 F_am8671_1859 S_am8671_1859 N_am8671_1859 X_am8676_1874 X_am8677_1877 X_am8678_1880 X_am8679_1883 X_am86710_1886 X_am86711_1889 X_am86712_1892 X_am86713_1895) (bz_lawOf_890 k cut_wL_lawOf_1224 X_x6 X_x7 X_x8 X_x12 X_z0 17 X_r_1851 X_fm0_piled_1853 X_fm0_clock_1854 X_fm0_groups_1855 X_fm0_wrong_1856 X_am8671_1859 M_am8671_1859 F_am8671_1859 S_am8671_1859 N_am8671_1859 X_am8676_1874 X_am8677_1877 X_am8678_1880 X_am8679_1883 X_am86710_1886 X_am86711_1889 X_am86712_1892 X_am86713_1895)) (bz_lawOf_890 k cut_wL_lawOf_1224 X_x6 X_x7 X_x8 X_x12 X_z0 16 X_r_1851 X_fm0_piled_1853 X_fm0_clock_1854 X_fm0_groups_1855 X_fm0_wrong_1856 X_am8671_1859 M_am8671_1859 F_am8671_1859 S_am8671_1859 N_am8671_1859 X_am8676_1874 X_am8677_1877 X_am8678_1880 X_am8679_1883 X_am86710_1886 X_am86711_1889 X_am86712_1892 X_am86713_1895))) X_am6961 M_am6961 F_am6961 S_am6961 N_am6961 X_fm0_piled X_fm0_clock X_fm0_groups X_fm0_wrong X_am6966 X_am6967 X_am6968 X_am6969 X_am69610 X_am69611 X_am69612 X_am69613 X_x7 X_x6)))
theorem sz_lawOf_849 {e : Nat → Int32} {post : Int32 → St0 → Prop} {k : Nat → Bool} {mc ms kc ks : Nat} {cut_wL_lawOf_1224 : Nat → Nat → Nat → Nat → Nat → Nat → Nat → Nat → Nat → Nat → Nat → Nat → Nat → Nat → Nat → Nat → Nat → Bool} {X_x6 X_x7 X_x8 X_x10 X_x11 X_x12 X_z0 X_fm0_piled X_fm0_clock X_fm0_groups X_fm0_wrong X_am6961 M_am6961 F_am6961 S_am6961 N_am6961 X_am6966 X_am6967 X_am6968 X_am6969 X_am69610 X_am69611 X_am69612 X_am69613 : Nat} {x6 x7 x8 x10 x11 x12 z0 fm0_op fm0_piled fm0_clock fm0_groups fm0_wrong : Int32} {am6961 am6962 am6963 am6964 am6965 am6966 am6967 am6968 am6969 am69610 am69611 am69612 am69613 : Nat → Int32} (hb : bz_lawOf_849 k cut_wL_lawOf_1224 X_x6 X_x7 X_x8 X_x10 X_x11 X_x12 X_z0 X_fm0_piled X_fm0_clock X_fm0_groups X_fm0_wrong X_am6961 M_am6961 F_am6961 S_am6961 N_am6961 X_am6966 X_am6967 X_am6968 X_am6969 X_am69610 X_am69611 X_am69612 X_am69613 = true) (hk : ∀ ⦃R : Nat⦄ ⦃r : Int32⦄, k R = true → ab_rv e R r → post r ()) (hcut_wL_lawOf_1224 : ∀ ⦃X_fm0_piled X_fm0_clock X_fm0_groups X_fm0_wrong X_am6961 M_am6961 F_am6961 S_am6961 N_am6961 X_am6966 X_am6967 X_am6968 X_am6969 X_am69610 X_am69611 X_am69612 X_am69613 : Nat⦄ ⦃fm0_op fm0_piled fm0_clock fm0_groups fm0_wrong : Int32⦄ ⦃am6961 am6962 am6963 am6964 am6965 am6966 am6967 am6968 am6969 am69610 am69611 am69612 am69613 : Nat → Int32⦄, cut_wL_lawOf_1224 X_fm0_piled X_fm0_clock X_fm0_groups X_fm0_wrong X_am6961 M_am6961 F_am6961 S_am6961 N_am6961 X_am6966 X_am6967 X_am6968 X_am6969 X_am69610 X_am69611 X_am69612 X_am69613 = true → ab_rv e X_fm0_piled fm0_piled → ab_rv e X_fm0_clock fm0_clock → ab_rv e X_fm0_groups fm0_groups → ab_rv e X_fm0_wrong fm0_wrong → ab_rg e X_am6961 M_am6961 F_am6961 S_am6961 N_am6961 fm0_op am6961 am6962 am6963 am6964 am6965 → ab_ra e 12 X_am6966 am6966 → ab_ra e 12 X_am6967 am6967 → ab_ra e 12 X_am6968 am6968 → ab_ra e 12 X_am6969 am6969 → ab_ra e 12 X_am69610 am69610 → ab_ra e 12 X_am69611 am69611 → ab_ra e 12 X_am69612 am69612 → ab_ra e 12 X_am69613 am69613 → ∃ fu : Nat, wL_lawOf_1224 post mc ms kc ks fu 0 fm0_op fm0_piled fm0_clock fm0_groups fm0_wrong am6961 am6962 am6963 am6964 am6965 am6966 am6967 am6968 am6969 am69610 am69611 am69612 am69613) (h_x6 : ab_rv e X_x6 x6) (h_x7 : ab_rv e X_x7 x7) (h_x8 : ab_rv e X_x8 x8) (h_x10 : ab_rv e X_x10 x10) (h_x11 : ab_rv e X_x11 x11) (h_x12 : ab_rv e X_x12 x12) (h_z0 : ab_rv e X_z0 z0) (h_fm0_piled : ab_rv e X_fm0_piled fm0_piled) (h_fm0_clock : ab_rv e X_fm0_clock fm0_clock) (h_fm0_groups : ab_rv e X_fm0_groups fm0_groups) (h_fm0_wrong : ab_rv e X_fm0_wrong fm0_wrong) (g_am6961 : ab_rg e X_am6961 M_am6961 F_am6961 S_am6961 N_am6961 fm0_op am6961 am6962 am6963 am6964 am6965) (h_am6966 : ab_ra e 12 X_am6966 am6966) (h_am6967 : ab_ra e 12 X_am6967 am6967) (h_am6968 : ab_ra e 12 X_am6968 am6968) (h_am6969 : ab_ra e 12 X_am6969 am6969) (h_am69610 : ab_ra e 12 X_am69610 am69610) (h_am69611 : ab_ra e 12 X_am69611 am69611) (h_am69612 : ab_ra e 12 X_am69612 am69612) (h_am69613 : ab_ra e 12 X_am69613 am69613) : wL_lawOf_849 post mc ms x6 x7 x8 x10 x11 x12 z0 kc ks fm0_op fm0_piled fm0_clock fm0_groups fm0_wrong am6961 am6962 am6963 am6964 am6965 am6966 am6967 am6968 am6969 am69610 am69611 am69612 am69613 := by
  refine ab_eqS hb h_x11 ab_l0 (fun hb => ?_) (fun hb => ?_)
  · exact sz_lawOf_895 hb hk hcut_wL_lawOf_1224 h_x6 h_x7 h_x8 h_x12 h_z0 h_fm0_piled h_fm0_clock h_fm0_groups h_fm0_wrong g_am6961 h_am6966 h_am6967 h_am6968 h_am6969 h_am69610 h_am69611 h_am69612 h_am69613
  · refine ab_eqS hb h_x10 ab_l0 (fun hb => ?_) (fun hb => ?_)
    · exact sz_lawOf_895 hb hk hcut_wL_lawOf_1224 h_x6 h_x7 h_x8 h_x12 h_z0 h_fm0_piled h_fm0_clock h_fm0_groups h_fm0_wrong g_am6961 h_am6966 h_am6967 h_am6968 h_am6969 h_am69610 h_am69611 h_am69612 h_am69613
    · refine sz_distance hb ?_ g_am6961 h_fm0_piled h_fm0_clock h_fm0_groups h_fm0_wrong h_am6966 h_am6967 h_am6968 h_am6969 h_am69610 h_am69611 h_am69612 h_am69613 h_x7 h_x6
      intro X_r_1851 X_am8671_1859 M_am8671_1859 F_am8671_1859 S_am8671_1859 N_am8671_1859 X_fm0_piled_1853 X_fm0_clock_1854 X_fm0_groups_1855 X_fm0_wrong_1856 X_am8676_1874 X_am8677_1877 X_am8678_1880 X_am8679_1883 X_am86710_1886 X_am86711_1889 X_am86712_1892 X_am86713_1895 r_1851 fm0_op_1852 fm0_piled_1853 fm0_clock_1854 fm0_groups_1855 fm0_wrong_1856 am8671_1859 am8672_1862 am8673_1865 am8674_1868 am8675_1871 am8676_1874 am8677_1877 am8678_1880 am8679_1883 am86710_1886 am86711_1889 am86712_1892 am86713_1895 hb h_r_1851 g_am8671_1859 h_fm0_piled_1853 h_fm0_clock_1854 h_fm0_groups_1855 h_fm0_wrong_1856 h_am8676_1874 h_am8677_1877 h_am8678_1880 h_am8679_1883 h_am86710_1886 h_am86711_1889 h_am86712_1892 h_am86713_1895
      refine ab_eqS hb h_z0 ab_l0 (fun hb => ?_) (fun hb => ?_)
      · refine ab_eqS hb h_x12 ab_l0 (fun hb => ?_) (fun hb => ?_)
        · exact sz_lawOf_890 hb hk hcut_wL_lawOf_1224 h_x6 h_x7 h_x8 h_x12 h_z0 ab_m2 h_r_1851 h_fm0_piled_1853 h_fm0_clock_1854 h_fm0_groups_1855 h_fm0_wrong_1856 g_am8671_1859 h_am8676_1874 h_am8677_1877 h_am8678_1880 h_am8679_1883 h_am86710_1886 h_am86711_1889 h_am86712_1892 h_am86713_1895
        · exact sz_lawOf_890 hb hk hcut_wL_lawOf_1224 h_x6 h_x7 h_x8 h_x12 h_z0 ab_l1 h_r_1851 h_fm0_piled_1853 h_fm0_clock_1854 h_fm0_groups_1855 h_fm0_wrong_1856 g_am8671_1859 h_am8676_1874 h_am8677_1877 h_am8678_1880 h_am8679_1883 h_am86710_1886 h_am86711_1889 h_am86712_1892 h_am86713_1895
      · exact sz_lawOf_890 hb hk hcut_wL_lawOf_1224 h_x6 h_x7 h_x8 h_x12 h_z0 ab_l0 h_r_1851 h_fm0_piled_1853 h_fm0_clock_1854 h_fm0_groups_1855 h_fm0_wrong_1856 g_am8671_1859 h_am8676_1874 h_am8677_1877 h_am8678_1880 h_am8679_1883 h_am86710_1886 h_am86711_1889 h_am86712_1892 h_am86713_1895
noncomputable def bz_lawOf_848 (k : Nat → Bool) (cut_wL_lawOf_1224 : Nat → Nat → Nat → Nat → Nat → Nat → Nat → Nat → Nat → Nat → Nat → Nat → Nat → Nat → Nat → Nat → Nat → Bool) (X_x6 X_x7 X_x8 X_x10 X_x11 X_x12 X_fm0_piled X_fm0_clock X_fm0_groups X_fm0_wrong X_am6961 M_am6961 F_am6961 S_am6961 N_am6961 X_am6966 X_am6967 X_am6968 X_am6969 X_am69610 X_am69611 X_am69612 X_am69613 : Nat) : Bool :=
  (bz_lawOf_849 k cut_wL_lawOf_1224 X_x6 X_x7 X_x8 X_x10 X_x11 X_x12 16 X_fm0_piled X_fm0_clock X_fm0_groups X_fm0_wrong X_am6961 M_am6961 F_am6961 S_am6961 N_am6961 X_am6966 X_am6967 X_am6968 X_am6969 X_am69610 X_am69611 X_am69612 X_am69613)
theorem sz_lawOf_848 {e : Nat → Int32} {post : Int32 → St0 → Prop} {k : Nat → Bool} {mc ms kc ks : Nat} {cut_wL_lawOf_1224 : Nat → Nat → Nat → Nat → Nat → Nat → Nat → Nat → Nat → Nat → Nat → Nat → Nat → Nat → Nat → Nat → Nat → Bool} {X_x6 X_x7 X_x8 X_x10 X_x11 X_x12 X_fm0_piled X_fm0_clock X_fm0_groups X_fm0_wrong X_am6961 M_am6961 F_am6961 S_am6961 N_am6961 X_am6966 X_am6967 X_am6968 X_am6969 X_am69610 X_am69611 X_am69612 X_am69613 : Nat} {x6 x7 x8 x10 x11 x12 fm0_op fm0_piled fm0_clock fm0_groups fm0_wrong : Int32} {am6961 am6962 am6963 am6964 am6965 am6966 am6967 am6968 am6969 am69610 am69611 am69612 am69613 : Nat → Int32} (hb : bz_lawOf_848 k cut_wL_lawOf_1224 X_x6 X_x7 X_x8 X_x10 X_x11 X_x12 X_fm0_piled X_fm0_clock X_fm0_groups X_fm0_wrong X_am6961 M_am6961 F_am6961 S_am6961 N_am6961 X_am6966 X_am6967 X_am6968 X_am6969 X_am69610 X_am69611 X_am69612 X_am69613 = true) (hk : ∀ ⦃R : Nat⦄ ⦃r : Int32⦄, k R = true → ab_rv e R r → post r ()) (hcut_wL_lawOf_1224 : ∀ ⦃X_fm0_piled X_fm0_clock X_fm0_groups X_fm0_wrong X_am6961 M_am6961 F_am6961 S_am6961 N_am6961 X_am6966 X_am6967 X_am6968 X_am6969 X_am69610 X_am69611 X_am69612 X_am69613 : Nat⦄ ⦃fm0_op fm0_piled fm0_clock fm0_groups fm0_wrong : Int32⦄ ⦃am6961 am6962 am6963 am6964 am6965 am6966 am6967 am6968 am6969 am69610 am69611 am69612 am69613 : Nat → Int32⦄, cut_wL_lawOf_1224 X_fm0_piled X_fm0_clock X_fm0_groups X_fm0_wrong X_am6961 M_am6961 F_am6961 S_am6961 N_am6961 X_am6966 X_am6967 X_am6968 X_am6969 X_am69610 X_am69611 X_am69612 X_am69613 = true → ab_rv e X_fm0_piled fm0_piled → ab_rv e X_fm0_clock fm0_clock → ab_rv e X_fm0_groups fm0_groups → ab_rv e X_fm0_wrong fm0_wrong → ab_rg e X_am6961 M_am6961 F_am6961 S_am6961 N_am6961 fm0_op am6961 am6962 am6963 am6964 am6965 → ab_ra e 12 X_am6966 am6966 → ab_ra e 12 X_am6967 am6967 → ab_ra e 12 X_am6968 am6968 → ab_ra e 12 X_am6969 am6969 → ab_ra e 12 X_am69610 am69610 → ab_ra e 12 X_am69611 am69611 → ab_ra e 12 X_am69612 am69612 → ab_ra e 12 X_am69613 am69613 → ∃ fu : Nat, wL_lawOf_1224 post mc ms kc ks fu 0 fm0_op fm0_piled fm0_clock fm0_groups fm0_wrong am6961 am6962 am6963 am6964 am6965 am6966 am6967 am6968 am6969 am69610 am69611 am69612 am69613) (h_x6 : ab_rv e X_x6 x6) (h_x7 : ab_rv e X_x7 x7) (h_x8 : ab_rv e X_x8 x8) (h_x10 : ab_rv e X_x10 x10) (h_x11 : ab_rv e X_x11 x11) (h_x12 : ab_rv e X_x12 x12) (h_fm0_piled : ab_rv e X_fm0_piled fm0_piled) (h_fm0_clock : ab_rv e X_fm0_clock fm0_clock) (h_fm0_groups : ab_rv e X_fm0_groups fm0_groups) (h_fm0_wrong : ab_rv e X_fm0_wrong fm0_wrong) (g_am6961 : ab_rg e X_am6961 M_am6961 F_am6961 S_am6961 N_am6961 fm0_op am6961 am6962 am6963 am6964 am6965) (h_am6966 : ab_ra e 12 X_am6966 am6966) (h_am6967 : ab_ra e 12 X_am6967 am6967) (h_am6968 : ab_ra e 12 X_am6968 am6968) (h_am6969 : ab_ra e 12 X_am6969 am6969) (h_am69610 : ab_ra e 12 X_am69610 am69610) (h_am69611 : ab_ra e 12 X_am69611 am69611) (h_am69612 : ab_ra e 12 X_am69612 am69612) (h_am69613 : ab_ra e 12 X_am69613 am69613) : wL_lawOf_848 post mc ms x6 x7 x8 x10 x11 x12 kc ks fm0_op fm0_piled fm0_clock fm0_groups fm0_wrong am6961 am6962 am6963 am6964 am6965 am6966 am6967 am6968 am6969 am69610 am69611 am69612 am69613 := by
  exact sz_lawOf_849 hb hk hcut_wL_lawOf_1224 h_x6 h_x7 h_x8 h_x10 h_x11 h_x12 ab_l0 h_fm0_piled h_fm0_clock h_fm0_groups h_fm0_wrong g_am6961 h_am6966 h_am6967 h_am6968 h_am6969 h_am69610 h_am69611 h_am69612 h_am69613
noncomputable def bz_lawOf_799 (k : Nat → Bool) (cut_wL_lawOf_1224 : Nat → Nat → Nat → Nat → Nat → Nat → Nat → Nat → Nat → Nat → Nat → Nat → Nat → Nat → Nat → Nat → Nat → Bool) (X_x6 X_x7 X_x8 X_x10 X_x11 X_x12 X_z0 X_z1 X_fm0_piled X_fm0_clock X_fm0_groups X_fm0_wrong X_am6961 M_am6961 F_am6961 S_am6961 N_am6961 X_am6966 X_am6967 X_am6968 X_am6969 X_am69610 X_am69611 X_am69612 X_am69613 : Nat) : Bool :=
  (ab_eq X_z1 X_z0 (bz_look (fun X_r_1029 => (ab_eq X_r_1029 15 (bz_look (fun X_r_1031 => (ab_eq X_r_1031 15 (ab_eq X_x11 16 (bz_lawOf_848 k cut_wL_lawOf_1224 X_x6 X_x7 X_x8 X_x10 X_x11 X_x12 X_fm0_piled X_fm0_clock X_fm0_groups X_fm0_wrong X_am6961 M_am6961 F_am6961 S_am6961 N_am6961 X_am6966 X_am6967 X_am6968 X_am6969 X_am69610 X_am69611 X_am69612 X_am69613) (ab_eq (ab_div X_x7 28) (ab_sub X_x7 (ab_mul (ab_div X_x7 28) 28)) (bz_lawOf_849 k cut_wL_lawOf_1224 X_x6 X_x7 X_x8 X_x10 X_x11 X_x12 17 X_fm0_piled X_fm0_clock X_fm0_groups X_fm0_wrong X_am6961 M_am6961 F_am6961 S_am6961 N_am6961 X_am6966 X_am6967 X_am6968 X_am6969 X_am69610 X_am69611 X_am69612 X_am69613) (bz_lawOf_848 k cut_wL_lawOf_1224 X_x6 X_x7 X_x8 X_x10 X_x11 X_x12 X_fm0_piled X_fm0_clock X_fm0_groups X_fm0_wrong X_am6961 M_am6961 F_am6961 S_am6961 N_am6961 X_am6966 X_am6967 X_am6968 X_am6969 X_am69610 X_am69611 X_am69612 X_am69613))) (k 16))) X_am6961 M_am6961 F_am6961 S_am6961 N_am6961 X_fm0_piled X_fm0_clock X_fm0_groups X_fm0_wrong X_am6966 X_am6967 X_am6968 X_am6969 X_am69610 X_am69611 X_am69612 X_am69613 16 15) (k 16))) X_am6961 M_am6961 F_am6961 S_am6961 N_am6961 X_fm0_piled X_fm0_clock X_fm0_groups X_fm0_wrong X_am6966 X_am6967 X_am6968 X_am6969 X_am69610 X_am69611 X_am69612 X_am69613 16 20) (k 16))
theorem sz_lawOf_799 {e : Nat → Int32} {post : Int32 → St0 → Prop} {k : Nat → Bool} {mc ms kc ks : Nat} {cut_wL_lawOf_1224 : Nat → Nat → Nat → Nat → Nat → Nat → Nat → Nat → Nat → Nat → Nat → Nat → Nat → Nat → Nat → Nat → Nat → Bool} {X_x6 X_x7 X_x8 X_x10 X_x11 X_x12 X_z0 X_z1 X_fm0_piled X_fm0_clock X_fm0_groups X_fm0_wrong X_am6961 M_am6961 F_am6961 S_am6961 N_am6961 X_am6966 X_am6967 X_am6968 X_am6969 X_am69610 X_am69611 X_am69612 X_am69613 : Nat} {x6 x7 x8 x10 x11 x12 z0 z1 fm0_op fm0_piled fm0_clock fm0_groups fm0_wrong : Int32} {am6961 am6962 am6963 am6964 am6965 am6966 am6967 am6968 am6969 am69610 am69611 am69612 am69613 : Nat → Int32} (hb : bz_lawOf_799 k cut_wL_lawOf_1224 X_x6 X_x7 X_x8 X_x10 X_x11 X_x12 X_z0 X_z1 X_fm0_piled X_fm0_clock X_fm0_groups X_fm0_wrong X_am6961 M_am6961 F_am6961 S_am6961 N_am6961 X_am6966 X_am6967 X_am6968 X_am6969 X_am69610 X_am69611 X_am69612 X_am69613 = true) (hk : ∀ ⦃R : Nat⦄ ⦃r : Int32⦄, k R = true → ab_rv e R r → post r ()) (hcut_wL_lawOf_1224 : ∀ ⦃X_fm0_piled X_fm0_clock X_fm0_groups X_fm0_wrong X_am6961 M_am6961 F_am6961 S_am6961 N_am6961 X_am6966 X_am6967 X_am6968 X_am6969 X_am69610 X_am69611 X_am69612 X_am69613 : Nat⦄ ⦃fm0_op fm0_piled fm0_clock fm0_groups fm0_wrong : Int32⦄ ⦃am6961 am6962 am6963 am6964 am6965 am6966 am6967 am6968 am6969 am69610 am69611 am69612 am69613 : Nat → Int32⦄, cut_wL_lawOf_1224 X_fm0_piled X_fm0_clock X_fm0_groups X_fm0_wrong X_am6961 M_am6961 F_am6961 S_am6961 N_am6961 X_am6966 X_am6967 X_am6968 X_am6969 X_am69610 X_am69611 X_am69612 X_am69613 = true → ab_rv e X_fm0_piled fm0_piled → ab_rv e X_fm0_clock fm0_clock → ab_rv e X_fm0_groups fm0_groups → ab_rv e X_fm0_wrong fm0_wrong → ab_rg e X_am6961 M_am6961 F_am6961 S_am6961 N_am6961 fm0_op am6961 am6962 am6963 am6964 am6965 → ab_ra e 12 X_am6966 am6966 → ab_ra e 12 X_am6967 am6967 → ab_ra e 12 X_am6968 am6968 → ab_ra e 12 X_am6969 am6969 → ab_ra e 12 X_am69610 am69610 → ab_ra e 12 X_am69611 am69611 → ab_ra e 12 X_am69612 am69612 → ab_ra e 12 X_am69613 am69613 → ∃ fu : Nat, wL_lawOf_1224 post mc ms kc ks fu 0 fm0_op fm0_piled fm0_clock fm0_groups fm0_wrong am6961 am6962 am6963 am6964 am6965 am6966 am6967 am6968 am6969 am69610 am69611 am69612 am69613) (h_x6 : ab_rv e X_x6 x6) (h_x7 : ab_rv e X_x7 x7) (h_x8 : ab_rv e X_x8 x8) (h_x10 : ab_rv e X_x10 x10) (h_x11 : ab_rv e X_x11 x11) (h_x12 : ab_rv e X_x12 x12) (h_z0 : ab_rv e X_z0 z0) (h_z1 : ab_rv e X_z1 z1) (h_fm0_piled : ab_rv e X_fm0_piled fm0_piled) (h_fm0_clock : ab_rv e X_fm0_clock fm0_clock) (h_fm0_groups : ab_rv e X_fm0_groups fm0_groups) (h_fm0_wrong : ab_rv e X_fm0_wrong fm0_wrong) (g_am6961 : ab_rg e X_am6961 M_am6961 F_am6961 S_am6961 N_am6961 fm0_op am6961 am6962 am6963 am6964 am6965) (h_am6966 : ab_ra e 12 X_am6966 am6966) (h_am6967 : ab_ra e 12 X_am6967 am6967) (h_am6968 : ab_ra e 12 X_am6968 am6968) (h_am6969 : ab_ra e 12 X_am6969 am6969) (h_am69610 : ab_ra e 12 X_am69610 am69610) (h_am69611 : ab_ra e 12 X_am69611 am69611) (h_am69612 : ab_ra e 12 X_am69612 am69612) (h_am69613 : ab_ra e 12 X_am69613 am69613) : wL_lawOf_799 post mc ms x6 x7 x8 x10 x11 x12 z0 z1 kc ks fm0_op fm0_piled fm0_clock fm0_groups fm0_wrong am6961 am6962 am6963 am6964 am6965 am6966 am6967 am6968 am6969 am69610 am69611 am69612 am69613 := by
  refine ab_eqS hb h_z1 h_z0 (fun hb => ?_) (fun hb => ?_)
  · refine sz_look hb ?_ g_am6961 h_fm0_piled h_fm0_clock h_fm0_groups h_fm0_wrong h_am6966 h_am6967 h_am6968 h_am6969 h_am69610 h_am69611 h_am69612 h_am69613 ab_l0 ab_l4
    intro X_r_1029 r_1029 hb h_r_1029
    refine ab_eqS hb h_r_1029 ab_m1 (fun hb => ?_) (fun hb => ?_)
    · refine sz_look hb ?_ g_am6961 h_fm0_piled h_fm0_clock h_fm0_groups h_fm0_wrong h_am6966 h_am6967 h_am6968 h_am6969 h_am69610 h_am69611 h_am69612 h_am69613 ab_l0 ab_m1
      intro X_r_1031 r_1031 hb h_r_1031
      refine ab_eqS hb h_r_1031 ab_m1 (fun hb => ?_) (fun hb => ?_)
      · refine ab_eqS hb h_x11 ab_l0 (fun hb => ?_) (fun hb => ?_)
        · exact sz_lawOf_848 hb hk hcut_wL_lawOf_1224 h_x6 h_x7 h_x8 h_x10 h_x11 h_x12 h_fm0_piled h_fm0_clock h_fm0_groups h_fm0_wrong g_am6961 h_am6966 h_am6967 h_am6968 h_am6969 h_am69610 h_am69611 h_am69612 h_am69613
        · refine ab_d12 ?_
          refine ab_d12 ?_
          refine ab_eqS hb (ab_divS h_x7 ab_l12) (ab_subS h_x7 (ab_mulS (ab_divS h_x7 ab_l12) ab_l12)) (fun hb => ?_) (fun hb => ?_)
          · exact sz_lawOf_849 hb hk hcut_wL_lawOf_1224 h_x6 h_x7 h_x8 h_x10 h_x11 h_x12 ab_l1 h_fm0_piled h_fm0_clock h_fm0_groups h_fm0_wrong g_am6961 h_am6966 h_am6967 h_am6968 h_am6969 h_am69610 h_am69611 h_am69612 h_am69613
          · exact sz_lawOf_848 hb hk hcut_wL_lawOf_1224 h_x6 h_x7 h_x8 h_x10 h_x11 h_x12 h_fm0_piled h_fm0_clock h_fm0_groups h_fm0_wrong g_am6961 h_am6966 h_am6967 h_am6968 h_am6969 h_am69610 h_am69611 h_am69612 h_am69613
      · exact hk hb ab_l0
    · exact hk hb ab_l0
  · exact hk hb ab_l0
noncomputable def bz_lawOf_778 (k : Nat → Bool) (cut_wL_lawOf_1224 : Nat → Nat → Nat → Nat → Nat → Nat → Nat → Nat → Nat → Nat → Nat → Nat → Nat → Nat → Nat → Nat → Nat → Bool) (X_x6 X_x7 X_x8 X_x10 X_x11 X_x12 X_z0 X_z1 X_fm0_piled X_fm0_clock X_fm0_groups X_fm0_wrong X_am6961 M_am6961 F_am6961 S_am6961 N_am6961 X_am6966 X_am6967 X_am6968 X_am6969 X_am69610 X_am69611 X_am69612 X_am69613 : Nat) : Bool :=
  (ab_eq X_z1 X_z0 (bz_look (fun X_r_1026 => (ab_eq X_x12 16 (bz_lawOf_799 k cut_wL_lawOf_1224 X_x6 X_x7 X_x8 X_x10 X_x11 X_x12 15 X_r_1026 X_fm0_piled X_fm0_clock X_fm0_groups X_fm0_wrong X_am6961 M_am6961 F_am6961 S_am6961 N_am6961 X_am6966 X_am6967 X_am6968 X_am6969 X_am69610 X_am69611 X_am69612 X_am69613) (bz_lawOf_799 k cut_wL_lawOf_1224 X_x6 X_x7 X_x8 X_x10 X_x11 X_x12 X_x8 X_r_1026 X_fm0_piled X_fm0_clock X_fm0_groups X_fm0_wrong X_am6961 M_am6961 F_am6961 S_am6961 N_am6961 X_am6966 X_am6967 X_am6968 X_am6969 X_am69610 X_am69611 X_am69612 X_am69613))) X_am6961 M_am6961 F_am6961 S_am6961 N_am6961 X_fm0_piled X_fm0_clock X_fm0_groups X_fm0_wrong X_am6966 X_am6967 X_am6968 X_am6969 X_am69610 X_am69611 X_am69612 X_am69613 16 19) (k 16))
theorem sz_lawOf_778 {e : Nat → Int32} {post : Int32 → St0 → Prop} {k : Nat → Bool} {mc ms kc ks : Nat} {cut_wL_lawOf_1224 : Nat → Nat → Nat → Nat → Nat → Nat → Nat → Nat → Nat → Nat → Nat → Nat → Nat → Nat → Nat → Nat → Nat → Bool} {X_x6 X_x7 X_x8 X_x10 X_x11 X_x12 X_z0 X_z1 X_fm0_piled X_fm0_clock X_fm0_groups X_fm0_wrong X_am6961 M_am6961 F_am6961 S_am6961 N_am6961 X_am6966 X_am6967 X_am6968 X_am6969 X_am69610 X_am69611 X_am69612 X_am69613 : Nat} {x6 x7 x8 x10 x11 x12 z0 z1 fm0_op fm0_piled fm0_clock fm0_groups fm0_wrong : Int32} {am6961 am6962 am6963 am6964 am6965 am6966 am6967 am6968 am6969 am69610 am69611 am69612 am69613 : Nat → Int32} (hb : bz_lawOf_778 k cut_wL_lawOf_1224 X_x6 X_x7 X_x8 X_x10 X_x11 X_x12 X_z0 X_z1 X_fm0_piled X_fm0_clock X_fm0_groups X_fm0_wrong X_am6961 M_am6961 F_am6961 S_am6961 N_am6961 X_am6966 X_am6967 X_am6968 X_am6969 X_am69610 X_am69611 X_am69612 X_am69613 = true) (hk : ∀ ⦃R : Nat⦄ ⦃r : Int32⦄, k R = true → ab_rv e R r → post r ()) (hcut_wL_lawOf_1224 : ∀ ⦃X_fm0_piled X_fm0_clock X_fm0_groups X_fm0_wrong X_am6961 M_am6961 F_am6961 S_am6961 N_am6961 X_am6966 X_am6967 X_am6968 X_am6969 X_am69610 X_am69611 X_am69612 X_am69613 : Nat⦄ ⦃fm0_op fm0_piled fm0_clock fm0_groups fm0_wrong : Int32⦄ ⦃am6961 am6962 am6963 am6964 am6965 am6966 am6967 am6968 am6969 am69610 am69611 am69612 am69613 : Nat → Int32⦄, cut_wL_lawOf_1224 X_fm0_piled X_fm0_clock X_fm0_groups X_fm0_wrong X_am6961 M_am6961 F_am6961 S_am6961 N_am6961 X_am6966 X_am6967 X_am6968 X_am6969 X_am69610 X_am69611 X_am69612 X_am69613 = true → ab_rv e X_fm0_piled fm0_piled → ab_rv e X_fm0_clock fm0_clock → ab_rv e X_fm0_groups fm0_groups → ab_rv e X_fm0_wrong fm0_wrong → ab_rg e X_am6961 M_am6961 F_am6961 S_am6961 N_am6961 fm0_op am6961 am6962 am6963 am6964 am6965 → ab_ra e 12 X_am6966 am6966 → ab_ra e 12 X_am6967 am6967 → ab_ra e 12 X_am6968 am6968 → ab_ra e 12 X_am6969 am6969 → ab_ra e 12 X_am69610 am69610 → ab_ra e 12 X_am69611 am69611 → ab_ra e 12 X_am69612 am69612 → ab_ra e 12 X_am69613 am69613 → ∃ fu : Nat, wL_lawOf_1224 post mc ms kc ks fu 0 fm0_op fm0_piled fm0_clock fm0_groups fm0_wrong am6961 am6962 am6963 am6964 am6965 am6966 am6967 am6968 am6969 am69610 am69611 am69612 am69613) (h_x6 : ab_rv e X_x6 x6) (h_x7 : ab_rv e X_x7 x7) (h_x8 : ab_rv e X_x8 x8) (h_x10 : ab_rv e X_x10 x10) (h_x11 : ab_rv e X_x11 x11) (h_x12 : ab_rv e X_x12 x12) (h_z0 : ab_rv e X_z0 z0) (h_z1 : ab_rv e X_z1 z1) (h_fm0_piled : ab_rv e X_fm0_piled fm0_piled) (h_fm0_clock : ab_rv e X_fm0_clock fm0_clock) (h_fm0_groups : ab_rv e X_fm0_groups fm0_groups) (h_fm0_wrong : ab_rv e X_fm0_wrong fm0_wrong) (g_am6961 : ab_rg e X_am6961 M_am6961 F_am6961 S_am6961 N_am6961 fm0_op am6961 am6962 am6963 am6964 am6965) (h_am6966 : ab_ra e 12 X_am6966 am6966) (h_am6967 : ab_ra e 12 X_am6967 am6967) (h_am6968 : ab_ra e 12 X_am6968 am6968) (h_am6969 : ab_ra e 12 X_am6969 am6969) (h_am69610 : ab_ra e 12 X_am69610 am69610) (h_am69611 : ab_ra e 12 X_am69611 am69611) (h_am69612 : ab_ra e 12 X_am69612 am69612) (h_am69613 : ab_ra e 12 X_am69613 am69613) : wL_lawOf_778 post mc ms x6 x7 x8 x10 x11 x12 z0 z1 kc ks fm0_op fm0_piled fm0_clock fm0_groups fm0_wrong am6961 am6962 am6963 am6964 am6965 am6966 am6967 am6968 am6969 am69610 am69611 am69612 am69613 := by
  refine ab_eqS hb h_z1 h_z0 (fun hb => ?_) (fun hb => ?_)
  · refine sz_look hb ?_ g_am6961 h_fm0_piled h_fm0_clock h_fm0_groups h_fm0_wrong h_am6966 h_am6967 h_am6968 h_am6969 h_am69610 h_am69611 h_am69612 h_am69613 ab_l0 ab_l3
    intro X_r_1026 r_1026 hb h_r_1026
    refine ab_eqS hb h_x12 ab_l0 (fun hb => ?_) (fun hb => ?_)
    · exact sz_lawOf_799 hb hk hcut_wL_lawOf_1224 h_x6 h_x7 h_x8 h_x10 h_x11 h_x12 ab_m1 h_r_1026 h_fm0_piled h_fm0_clock h_fm0_groups h_fm0_wrong g_am6961 h_am6966 h_am6967 h_am6968 h_am6969 h_am69610 h_am69611 h_am69612 h_am69613
    · exact sz_lawOf_799 hb hk hcut_wL_lawOf_1224 h_x6 h_x7 h_x8 h_x10 h_x11 h_x12 h_x8 h_r_1026 h_fm0_piled h_fm0_clock h_fm0_groups h_fm0_wrong g_am6961 h_am6966 h_am6967 h_am6968 h_am6969 h_am69610 h_am69611 h_am69612 h_am69613
  · exact hk hb ab_l0
noncomputable def bz_lawOf_757 (k : Nat → Bool) (cut_wL_lawOf_1224 : Nat → Nat → Nat → Nat → Nat → Nat → Nat → Nat → Nat → Nat → Nat → Nat → Nat → Nat → Nat → Nat → Nat → Bool) (X_x6 X_x7 X_x8 X_x10 X_x11 X_x12 X_z0 X_z1 X_fm0_piled X_fm0_clock X_fm0_groups X_fm0_wrong X_am6961 M_am6961 F_am6961 S_am6961 N_am6961 X_am6966 X_am6967 X_am6968 X_am6969 X_am69610 X_am69611 X_am69612 X_am69613 : Nat) : Bool :=
  (ab_eq X_z1 X_z0 (bz_look (fun X_r_1023 => (ab_eq X_x12 16 (bz_lawOf_778 k cut_wL_lawOf_1224 X_x6 X_x7 X_x8 X_x10 X_x11 X_x12 15 X_r_1023 X_fm0_piled X_fm0_clock X_fm0_groups X_fm0_wrong X_am6961 M_am6961 F_am6961 S_am6961 N_am6961 X_am6966 X_am6967 X_am6968 X_am6969 X_am69610 X_am69611 X_am69612 X_am69613) (bz_lawOf_778 k cut_wL_lawOf_1224 X_x6 X_x7 X_x8 X_x10 X_x11 X_x12 X_x6 X_r_1023 X_fm0_piled X_fm0_clock X_fm0_groups X_fm0_wrong X_am6961 M_am6961 F_am6961 S_am6961 N_am6961 X_am6966 X_am6967 X_am6968 X_am6969 X_am69610 X_am69611 X_am69612 X_am69613))) X_am6961 M_am6961 F_am6961 S_am6961 N_am6961 X_fm0_piled X_fm0_clock X_fm0_groups X_fm0_wrong X_am6966 X_am6967 X_am6968 X_am6969 X_am69610 X_am69611 X_am69612 X_am69613 16 18) (k 16))
theorem sz_lawOf_757 {e : Nat → Int32} {post : Int32 → St0 → Prop} {k : Nat → Bool} {mc ms kc ks : Nat} {cut_wL_lawOf_1224 : Nat → Nat → Nat → Nat → Nat → Nat → Nat → Nat → Nat → Nat → Nat → Nat → Nat → Nat → Nat → Nat → Nat → Bool} {X_x6 X_x7 X_x8 X_x10 X_x11 X_x12 X_z0 X_z1 X_fm0_piled X_fm0_clock X_fm0_groups X_fm0_wrong X_am6961 M_am6961 F_am6961 S_am6961 N_am6961 X_am6966 X_am6967 X_am6968 X_am6969 X_am69610 X_am69611 X_am69612 X_am69613 : Nat} {x6 x7 x8 x10 x11 x12 z0 z1 fm0_op fm0_piled fm0_clock fm0_groups fm0_wrong : Int32} {am6961 am6962 am6963 am6964 am6965 am6966 am6967 am6968 am6969 am69610 am69611 am69612 am69613 : Nat → Int32} (hb : bz_lawOf_757 k cut_wL_lawOf_1224 X_x6 X_x7 X_x8 X_x10 X_x11 X_x12 X_z0 X_z1 X_fm0_piled X_fm0_clock X_fm0_groups X_fm0_wrong X_am6961 M_am6961 F_am6961 S_am6961 N_am6961 X_am6966 X_am6967 X_am6968 X_am6969 X_am69610 X_am69611 X_am69612 X_am69613 = true) (hk : ∀ ⦃R : Nat⦄ ⦃r : Int32⦄, k R = true → ab_rv e R r → post r ()) (hcut_wL_lawOf_1224 : ∀ ⦃X_fm0_piled X_fm0_clock X_fm0_groups X_fm0_wrong X_am6961 M_am6961 F_am6961 S_am6961 N_am6961 X_am6966 X_am6967 X_am6968 X_am6969 X_am69610 X_am69611 X_am69612 X_am69613 : Nat⦄ ⦃fm0_op fm0_piled fm0_clock fm0_groups fm0_wrong : Int32⦄ ⦃am6961 am6962 am6963 am6964 am6965 am6966 am6967 am6968 am6969 am69610 am69611 am69612 am69613 : Nat → Int32⦄, cut_wL_lawOf_1224 X_fm0_piled X_fm0_clock X_fm0_groups X_fm0_wrong X_am6961 M_am6961 F_am6961 S_am6961 N_am6961 X_am6966 X_am6967 X_am6968 X_am6969 X_am69610 X_am69611 X_am69612 X_am69613 = true → ab_rv e X_fm0_piled fm0_piled → ab_rv e X_fm0_clock fm0_clock → ab_rv e X_fm0_groups fm0_groups → ab_rv e X_fm0_wrong fm0_wrong → ab_rg e X_am6961 M_am6961 F_am6961 S_am6961 N_am6961 fm0_op am6961 am6962 am6963 am6964 am6965 → ab_ra e 12 X_am6966 am6966 → ab_ra e 12 X_am6967 am6967 → ab_ra e 12 X_am6968 am6968 → ab_ra e 12 X_am6969 am6969 → ab_ra e 12 X_am69610 am69610 → ab_ra e 12 X_am69611 am69611 → ab_ra e 12 X_am69612 am69612 → ab_ra e 12 X_am69613 am69613 → ∃ fu : Nat, wL_lawOf_1224 post mc ms kc ks fu 0 fm0_op fm0_piled fm0_clock fm0_groups fm0_wrong am6961 am6962 am6963 am6964 am6965 am6966 am6967 am6968 am6969 am69610 am69611 am69612 am69613) (h_x6 : ab_rv e X_x6 x6) (h_x7 : ab_rv e X_x7 x7) (h_x8 : ab_rv e X_x8 x8) (h_x10 : ab_rv e X_x10 x10) (h_x11 : ab_rv e X_x11 x11) (h_x12 : ab_rv e X_x12 x12) (h_z0 : ab_rv e X_z0 z0) (h_z1 : ab_rv e X_z1 z1) (h_fm0_piled : ab_rv e X_fm0_piled fm0_piled) (h_fm0_clock : ab_rv e X_fm0_clock fm0_clock) (h_fm0_groups : ab_rv e X_fm0_groups fm0_groups) (h_fm0_wrong : ab_rv e X_fm0_wrong fm0_wrong) (g_am6961 : ab_rg e X_am6961 M_am6961 F_am6961 S_am6961 N_am6961 fm0_op am6961 am6962 am6963 am6964 am6965) (h_am6966 : ab_ra e 12 X_am6966 am6966) (h_am6967 : ab_ra e 12 X_am6967 am6967) (h_am6968 : ab_ra e 12 X_am6968 am6968) (h_am6969 : ab_ra e 12 X_am6969 am6969) (h_am69610 : ab_ra e 12 X_am69610 am69610) (h_am69611 : ab_ra e 12 X_am69611 am69611) (h_am69612 : ab_ra e 12 X_am69612 am69612) (h_am69613 : ab_ra e 12 X_am69613 am69613) : wL_lawOf_757 post mc ms x6 x7 x8 x10 x11 x12 z0 z1 kc ks fm0_op fm0_piled fm0_clock fm0_groups fm0_wrong am6961 am6962 am6963 am6964 am6965 am6966 am6967 am6968 am6969 am69610 am69611 am69612 am69613 := by
  refine ab_eqS hb h_z1 h_z0 (fun hb => ?_) (fun hb => ?_)
  · refine sz_look hb ?_ g_am6961 h_fm0_piled h_fm0_clock h_fm0_groups h_fm0_wrong h_am6966 h_am6967 h_am6968 h_am6969 h_am69610 h_am69611 h_am69612 h_am69613 ab_l0 ab_l2
    intro X_r_1023 r_1023 hb h_r_1023
    refine ab_eqS hb h_x12 ab_l0 (fun hb => ?_) (fun hb => ?_)
    · exact sz_lawOf_778 hb hk hcut_wL_lawOf_1224 h_x6 h_x7 h_x8 h_x10 h_x11 h_x12 ab_m1 h_r_1023 h_fm0_piled h_fm0_clock h_fm0_groups h_fm0_wrong g_am6961 h_am6966 h_am6967 h_am6968 h_am6969 h_am69610 h_am69611 h_am69612 h_am69613
    · exact sz_lawOf_778 hb hk hcut_wL_lawOf_1224 h_x6 h_x7 h_x8 h_x10 h_x11 h_x12 h_x6 h_r_1023 h_fm0_piled h_fm0_clock h_fm0_groups h_fm0_wrong g_am6961 h_am6966 h_am6967 h_am6968 h_am6969 h_am69610 h_am69611 h_am69612 h_am69613
  · exact hk hb ab_l0
noncomputable def bz_lawOf_733 (k : Nat → Bool) (cut_wL_lawOf_1224 : Nat → Nat → Nat → Nat → Nat → Nat → Nat → Nat → Nat → Nat → Nat → Nat → Nat → Nat → Nat → Nat → Nat → Bool) (X_x6 X_x7 X_x8 X_x10 X_x11 X_x12 X_z0 X_z1 X_fm0_piled X_fm0_clock X_fm0_groups X_fm0_wrong X_am6961 M_am6961 F_am6961 S_am6961 N_am6961 X_am6966 X_am6967 X_am6968 X_am6969 X_am69610 X_am69611 X_am69612 X_am69613 : Nat) : Bool :=
  (ab_eq X_z1 X_z0 (bz_look (fun X_r_1020 => (ab_eq X_x12 16 (bz_lawOf_757 k cut_wL_lawOf_1224 X_x6 X_x7 X_x8 X_x10 X_x11 X_x12 15 X_r_1020 X_fm0_piled X_fm0_clock X_fm0_groups X_fm0_wrong X_am6961 M_am6961 F_am6961 S_am6961 N_am6961 X_am6966 X_am6967 X_am6968 X_am6969 X_am69610 X_am69611 X_am69612 X_am69613) (bz_lawOf_757 k cut_wL_lawOf_1224 X_x6 X_x7 X_x8 X_x10 X_x11 X_x12 (ab_sub X_x7 (ab_mul (ab_div X_x7 28) 28)) X_r_1020 X_fm0_piled X_fm0_clock X_fm0_groups X_fm0_wrong X_am6961 M_am6961 F_am6961 S_am6961 N_am6961 X_am6966 X_am6967 X_am6968 X_am6969 X_am69610 X_am69611 X_am69612 X_am69613))) X_am6961 M_am6961 F_am6961 S_am6961 N_am6961 X_fm0_piled X_fm0_clock X_fm0_groups X_fm0_wrong X_am6966 X_am6967 X_am6968 X_am6969 X_am69610 X_am69611 X_am69612 X_am69613 16 17) (k 16))
theorem sz_lawOf_733 {e : Nat → Int32} {post : Int32 → St0 → Prop} {k : Nat → Bool} {mc ms kc ks : Nat} {cut_wL_lawOf_1224 : Nat → Nat → Nat → Nat → Nat → Nat → Nat → Nat → Nat → Nat → Nat → Nat → Nat → Nat → Nat → Nat → Nat → Bool} {X_x6 X_x7 X_x8 X_x10 X_x11 X_x12 X_z0 X_z1 X_fm0_piled X_fm0_clock X_fm0_groups X_fm0_wrong X_am6961 M_am6961 F_am6961 S_am6961 N_am6961 X_am6966 X_am6967 X_am6968 X_am6969 X_am69610 X_am69611 X_am69612 X_am69613 : Nat} {x6 x7 x8 x10 x11 x12 z0 z1 fm0_op fm0_piled fm0_clock fm0_groups fm0_wrong : Int32} {am6961 am6962 am6963 am6964 am6965 am6966 am6967 am6968 am6969 am69610 am69611 am69612 am69613 : Nat → Int32} (hb : bz_lawOf_733 k cut_wL_lawOf_1224 X_x6 X_x7 X_x8 X_x10 X_x11 X_x12 X_z0 X_z1 X_fm0_piled X_fm0_clock X_fm0_groups X_fm0_wrong X_am6961 M_am6961 F_am6961 S_am6961 N_am6961 X_am6966 X_am6967 X_am6968 X_am6969 X_am69610 X_am69611 X_am69612 X_am69613 = true) (hk : ∀ ⦃R : Nat⦄ ⦃r : Int32⦄, k R = true → ab_rv e R r → post r ()) (hcut_wL_lawOf_1224 : ∀ ⦃X_fm0_piled X_fm0_clock X_fm0_groups X_fm0_wrong X_am6961 M_am6961 F_am6961 S_am6961 N_am6961 X_am6966 X_am6967 X_am6968 X_am6969 X_am69610 X_am69611 X_am69612 X_am69613 : Nat⦄ ⦃fm0_op fm0_piled fm0_clock fm0_groups fm0_wrong : Int32⦄ ⦃am6961 am6962 am6963 am6964 am6965 am6966 am6967 am6968 am6969 am69610 am69611 am69612 am69613 : Nat → Int32⦄, cut_wL_lawOf_1224 X_fm0_piled X_fm0_clock X_fm0_groups X_fm0_wrong X_am6961 M_am6961 F_am6961 S_am6961 N_am6961 X_am6966 X_am6967 X_am6968 X_am6969 X_am69610 X_am69611 X_am69612 X_am69613 = true → ab_rv e X_fm0_piled fm0_piled → ab_rv e X_fm0_clock fm0_clock → ab_rv e X_fm0_groups fm0_groups → ab_rv e X_fm0_wrong fm0_wrong → ab_rg e X_am6961 M_am6961 F_am6961 S_am6961 N_am6961 fm0_op am6961 am6962 am6963 am6964 am6965 → ab_ra e 12 X_am6966 am6966 → ab_ra e 12 X_am6967 am6967 → ab_ra e 12 X_am6968 am6968 → ab_ra e 12 X_am6969 am6969 → ab_ra e 12 X_am69610 am69610 → ab_ra e 12 X_am69611 am69611 → ab_ra e 12 X_am69612 am69612 → ab_ra e 12 X_am69613 am69613 → ∃ fu : Nat, wL_lawOf_1224 post mc ms kc ks fu 0 fm0_op fm0_piled fm0_clock fm0_groups fm0_wrong am6961 am6962 am6963 am6964 am6965 am6966 am6967 am6968 am6969 am69610 am69611 am69612 am69613) (h_x6 : ab_rv e X_x6 x6) (h_x7 : ab_rv e X_x7 x7) (h_x8 : ab_rv e X_x8 x8) (h_x10 : ab_rv e X_x10 x10) (h_x11 : ab_rv e X_x11 x11) (h_x12 : ab_rv e X_x12 x12) (h_z0 : ab_rv e X_z0 z0) (h_z1 : ab_rv e X_z1 z1) (h_fm0_piled : ab_rv e X_fm0_piled fm0_piled) (h_fm0_clock : ab_rv e X_fm0_clock fm0_clock) (h_fm0_groups : ab_rv e X_fm0_groups fm0_groups) (h_fm0_wrong : ab_rv e X_fm0_wrong fm0_wrong) (g_am6961 : ab_rg e X_am6961 M_am6961 F_am6961 S_am6961 N_am6961 fm0_op am6961 am6962 am6963 am6964 am6965) (h_am6966 : ab_ra e 12 X_am6966 am6966) (h_am6967 : ab_ra e 12 X_am6967 am6967) (h_am6968 : ab_ra e 12 X_am6968 am6968) (h_am6969 : ab_ra e 12 X_am6969 am6969) (h_am69610 : ab_ra e 12 X_am69610 am69610) (h_am69611 : ab_ra e 12 X_am69611 am69611) (h_am69612 : ab_ra e 12 X_am69612 am69612) (h_am69613 : ab_ra e 12 X_am69613 am69613) : wL_lawOf_733 post mc ms x6 x7 x8 x10 x11 x12 z0 z1 kc ks fm0_op fm0_piled fm0_clock fm0_groups fm0_wrong am6961 am6962 am6963 am6964 am6965 am6966 am6967 am6968 am6969 am69610 am69611 am69612 am69613 := by
  refine ab_eqS hb h_z1 h_z0 (fun hb => ?_) (fun hb => ?_)
  · refine sz_look hb ?_ g_am6961 h_fm0_piled h_fm0_clock h_fm0_groups h_fm0_wrong h_am6966 h_am6967 h_am6968 h_am6969 h_am69610 h_am69611 h_am69612 h_am69613 ab_l0 ab_l1
    intro X_r_1020 r_1020 hb h_r_1020
    refine ab_eqS hb h_x12 ab_l0 (fun hb => ?_) (fun hb => ?_)
    · exact sz_lawOf_757 hb hk hcut_wL_lawOf_1224 h_x6 h_x7 h_x8 h_x10 h_x11 h_x12 ab_m1 h_r_1020 h_fm0_piled h_fm0_clock h_fm0_groups h_fm0_wrong g_am6961 h_am6966 h_am6967 h_am6968 h_am6969 h_am69610 h_am69611 h_am69612 h_am69613
    · refine ab_d12 ?_
      exact sz_lawOf_757 hb hk hcut_wL_lawOf_1224 h_x6 h_x7 h_x8 h_x10 h_x11 h_x12 (ab_subS h_x7 (ab_mulS (ab_divS h_x7 ab_l12) ab_l12)) h_r_1020 h_fm0_piled h_fm0_clock h_fm0_groups h_fm0_wrong g_am6961 h_am6966 h_am6967 h_am6968 h_am6969 h_am69610 h_am69611 h_am69612 h_am69613
  · exact hk hb ab_l0
noncomputable def bz_lawOf_709 (k : Nat → Bool) (cut_wL_lawOf_1224 : Nat → Nat → Nat → Nat → Nat → Nat → Nat → Nat → Nat → Nat → Nat → Nat → Nat → Nat → Nat → Nat → Nat → Bool) (X_x6 X_x7 X_x8 X_x10 X_x11 X_x12 X_z0 X_z1 X_fm0_piled X_fm0_clock X_fm0_groups X_fm0_wrong X_am6961 M_am6961 F_am6961 S_am6961 N_am6961 X_am6966 X_am6967 X_am6968 X_am6969 X_am69610 X_am69611 X_am69612 X_am69613 : Nat) : Bool :=
  (ab_eq X_z1 X_z0 (bz_look (fun X_r_1017 => (ab_eq X_x12 16 (bz_lawOf_733 k cut_wL_lawOf_1224 X_x6 X_x7 X_x8 X_x10 X_x11 X_x12 15 X_r_1017 X_fm0_piled X_fm0_clock X_fm0_groups X_fm0_wrong X_am6961 M_am6961 F_am6961 S_am6961 N_am6961 X_am6966 X_am6967 X_am6968 X_am6969 X_am69610 X_am69611 X_am69612 X_am69613) (bz_lawOf_733 k cut_wL_lawOf_1224 X_x6 X_x7 X_x8 X_x10 X_x11 X_x12 (ab_div X_x7 28) X_r_1017 X_fm0_piled X_fm0_clock X_fm0_groups X_fm0_wrong X_am6961 M_am6961 F_am6961 S_am6961 N_am6961 X_am6966 X_am6967 X_am6968 X_am6969 X_am69610 X_am69611 X_am69612 X_am69613))) X_am6961 M_am6961 F_am6961 S_am6961 N_am6961 X_fm0_piled X_fm0_clock X_fm0_groups X_fm0_wrong X_am6966 X_am6967 X_am6968 X_am6969 X_am69610 X_am69611 X_am69612 X_am69613 16 16) (k 16))
theorem sz_lawOf_709 {e : Nat → Int32} {post : Int32 → St0 → Prop} {k : Nat → Bool} {mc ms kc ks : Nat} {cut_wL_lawOf_1224 : Nat → Nat → Nat → Nat → Nat → Nat → Nat → Nat → Nat → Nat → Nat → Nat → Nat → Nat → Nat → Nat → Nat → Bool} {X_x6 X_x7 X_x8 X_x10 X_x11 X_x12 X_z0 X_z1 X_fm0_piled X_fm0_clock X_fm0_groups X_fm0_wrong X_am6961 M_am6961 F_am6961 S_am6961 N_am6961 X_am6966 X_am6967 X_am6968 X_am6969 X_am69610 X_am69611 X_am69612 X_am69613 : Nat} {x6 x7 x8 x10 x11 x12 z0 z1 fm0_op fm0_piled fm0_clock fm0_groups fm0_wrong : Int32} {am6961 am6962 am6963 am6964 am6965 am6966 am6967 am6968 am6969 am69610 am69611 am69612 am69613 : Nat → Int32} (hb : bz_lawOf_709 k cut_wL_lawOf_1224 X_x6 X_x7 X_x8 X_x10 X_x11 X_x12 X_z0 X_z1 X_fm0_piled X_fm0_clock X_fm0_groups X_fm0_wrong X_am6961 M_am6961 F_am6961 S_am6961 N_am6961 X_am6966 X_am6967 X_am6968 X_am6969 X_am69610 X_am69611 X_am69612 X_am69613 = true) (hk : ∀ ⦃R : Nat⦄ ⦃r : Int32⦄, k R = true → ab_rv e R r → post r ()) (hcut_wL_lawOf_1224 : ∀ ⦃X_fm0_piled X_fm0_clock X_fm0_groups X_fm0_wrong X_am6961 M_am6961 F_am6961 S_am6961 N_am6961 X_am6966 X_am6967 X_am6968 X_am6969 X_am69610 X_am69611 X_am69612 X_am69613 : Nat⦄ ⦃fm0_op fm0_piled fm0_clock fm0_groups fm0_wrong : Int32⦄ ⦃am6961 am6962 am6963 am6964 am6965 am6966 am6967 am6968 am6969 am69610 am69611 am69612 am69613 : Nat → Int32⦄, cut_wL_lawOf_1224 X_fm0_piled X_fm0_clock X_fm0_groups X_fm0_wrong X_am6961 M_am6961 F_am6961 S_am6961 N_am6961 X_am6966 X_am6967 X_am6968 X_am6969 X_am69610 X_am69611 X_am69612 X_am69613 = true → ab_rv e X_fm0_piled fm0_piled → ab_rv e X_fm0_clock fm0_clock → ab_rv e X_fm0_groups fm0_groups → ab_rv e X_fm0_wrong fm0_wrong → ab_rg e X_am6961 M_am6961 F_am6961 S_am6961 N_am6961 fm0_op am6961 am6962 am6963 am6964 am6965 → ab_ra e 12 X_am6966 am6966 → ab_ra e 12 X_am6967 am6967 → ab_ra e 12 X_am6968 am6968 → ab_ra e 12 X_am6969 am6969 → ab_ra e 12 X_am69610 am69610 → ab_ra e 12 X_am69611 am69611 → ab_ra e 12 X_am69612 am69612 → ab_ra e 12 X_am69613 am69613 → ∃ fu : Nat, wL_lawOf_1224 post mc ms kc ks fu 0 fm0_op fm0_piled fm0_clock fm0_groups fm0_wrong am6961 am6962 am6963 am6964 am6965 am6966 am6967 am6968 am6969 am69610 am69611 am69612 am69613) (h_x6 : ab_rv e X_x6 x6) (h_x7 : ab_rv e X_x7 x7) (h_x8 : ab_rv e X_x8 x8) (h_x10 : ab_rv e X_x10 x10) (h_x11 : ab_rv e X_x11 x11) (h_x12 : ab_rv e X_x12 x12) (h_z0 : ab_rv e X_z0 z0) (h_z1 : ab_rv e X_z1 z1) (h_fm0_piled : ab_rv e X_fm0_piled fm0_piled) (h_fm0_clock : ab_rv e X_fm0_clock fm0_clock) (h_fm0_groups : ab_rv e X_fm0_groups fm0_groups) (h_fm0_wrong : ab_rv e X_fm0_wrong fm0_wrong) (g_am6961 : ab_rg e X_am6961 M_am6961 F_am6961 S_am6961 N_am6961 fm0_op am6961 am6962 am6963 am6964 am6965) (h_am6966 : ab_ra e 12 X_am6966 am6966) (h_am6967 : ab_ra e 12 X_am6967 am6967) (h_am6968 : ab_ra e 12 X_am6968 am6968) (h_am6969 : ab_ra e 12 X_am6969 am6969) (h_am69610 : ab_ra e 12 X_am69610 am69610) (h_am69611 : ab_ra e 12 X_am69611 am69611) (h_am69612 : ab_ra e 12 X_am69612 am69612) (h_am69613 : ab_ra e 12 X_am69613 am69613) : wL_lawOf_709 post mc ms x6 x7 x8 x10 x11 x12 z0 z1 kc ks fm0_op fm0_piled fm0_clock fm0_groups fm0_wrong am6961 am6962 am6963 am6964 am6965 am6966 am6967 am6968 am6969 am69610 am69611 am69612 am69613 := by
  refine ab_eqS hb h_z1 h_z0 (fun hb => ?_) (fun hb => ?_)
  · refine sz_look hb ?_ g_am6961 h_fm0_piled h_fm0_clock h_fm0_groups h_fm0_wrong h_am6966 h_am6967 h_am6968 h_am6969 h_am69610 h_am69611 h_am69612 h_am69613 ab_l0 ab_l0
    intro X_r_1017 r_1017 hb h_r_1017
    refine ab_eqS hb h_x12 ab_l0 (fun hb => ?_) (fun hb => ?_)
    · exact sz_lawOf_733 hb hk hcut_wL_lawOf_1224 h_x6 h_x7 h_x8 h_x10 h_x11 h_x12 ab_m1 h_r_1017 h_fm0_piled h_fm0_clock h_fm0_groups h_fm0_wrong g_am6961 h_am6966 h_am6967 h_am6968 h_am6969 h_am69610 h_am69611 h_am69612 h_am69613
    · refine ab_d12 ?_
      exact sz_lawOf_733 hb hk hcut_wL_lawOf_1224 h_x6 h_x7 h_x8 h_x10 h_x11 h_x12 (ab_divS h_x7 ab_l12) h_r_1017 h_fm0_piled h_fm0_clock h_fm0_groups h_fm0_wrong g_am6961 h_am6966 h_am6967 h_am6968 h_am6969 h_am69610 h_am69611 h_am69612 h_am69613
  · exact hk hb ab_l0
noncomputable def bz_lawOf_686 (k : Nat → Bool) (cut_wL_lawOf_1224 : Nat → Nat → Nat → Nat → Nat → Nat → Nat → Nat → Nat → Nat → Nat → Nat → Nat → Nat → Nat → Nat → Nat → Bool) (X_x6 X_x7 X_x8 X_x10 X_x11 X_z0 X_fm0_piled X_fm0_clock X_fm0_groups X_fm0_wrong X_am6141 M_am6141 F_am6141 S_am6141 N_am6141 X_am6146 X_am6147 X_am6148 X_am6149 X_am61410 X_am61411 X_am61412 X_am61413 : Nat) : Bool :=
  (bz_arrow (fun X_r_970 X_am6961_978 M_am6961_978 F_am6961_978 S_am6961_978 N_am6961_978 X_fm0_piled_972 X_fm0_clock_973 X_fm0_groups_974 X_fm0_wrong_975 X_am6966_993 X_am6967_996 X_am6968_999 X_am6969_1002 X_am69610_1005 X_am69611_1008 X_am69612_1011 X_am69613_1014 => (ab_eq X_z0 16 (bz_lawOf_709 k cut_wL_lawOf_1224 X_x6 X_x7 X_x8 X_x10 X_x11 X_z0 15 X_r_970 X_fm0_piled_972 X_fm0_clock_973 X_fm0_groups_974 X_fm0_wrong_975 X_am6961_978 M_am6961_978 F_am6961_978 S_am6961_978 N_am6961_978 X_am6966_993 X_am6967_996 X_am6968_999 X_am6969_1002 X_am69610_1005 X_am69611_1008 X_am69612_1011 X_am69613_1014) (bz_lawOf_709 k cut_wL_lawOf_1224 X_x6 X_x7 X_x8 X_x10 X_x11 X_z0 16 X_r_970 X_fm0_piled_972 X_fm0_clock_973 X_fm0_groups_974 X_fm0_wrong_975 X_am6961_978 M_am6961_978 F_am6961_978 S_am6961_978 N_am6961_978 X_am6966_993 X_am6967_996 X_am6968_999 X_am6969_1002 X_am69610_1005 X_am69611_1008 X_am69612_1011 X_am69613_1014))) X_am6141 M_am6141 F_am6141 S_am6141 N_am6141 X_fm0_piled X_fm0_clock X_fm0_groups X_fm0_wrong X_am6146 X_am6147 X_am6148 X_am6149 X_am61410 X_am61411 X_am61412 X_am61413 X_x7 X_x6 X_x8)
theorem sz_lawOf_686 {e : Nat → Int32} {post : Int32 → St0 → Prop} {k : Nat → Bool} {mc ms kc ks : Nat} {cut_wL_lawOf_1224 : Nat → Nat → Nat → Nat → Nat → Nat → Nat → Nat → Nat → Nat → Nat → Nat → Nat → Nat → Nat → Nat → Nat → Bool} {X_x6 X_x7 X_x8 X_x10 X_x11 X_z0 X_fm0_piled X_fm0_clock X_fm0_groups X_fm0_wrong X_am6141 M_am6141 F_am6141 S_am6141 N_am6141 X_am6146 X_am6147 X_am6148 X_am6149 X_am61410 X_am61411 X_am61412 X_am61413 : Nat} {x6 x7 x8 x10 x11 z0 fm0_op fm0_piled fm0_clock fm0_groups fm0_wrong : Int32} {am6141 am6142 am6143 am6144 am6145 am6146 am6147 am6148 am6149 am61410 am61411 am61412 am61413 : Nat → Int32} (hb : bz_lawOf_686 k cut_wL_lawOf_1224 X_x6 X_x7 X_x8 X_x10 X_x11 X_z0 X_fm0_piled X_fm0_clock X_fm0_groups X_fm0_wrong X_am6141 M_am6141 F_am6141 S_am6141 N_am6141 X_am6146 X_am6147 X_am6148 X_am6149 X_am61410 X_am61411 X_am61412 X_am61413 = true) (hk : ∀ ⦃R : Nat⦄ ⦃r : Int32⦄, k R = true → ab_rv e R r → post r ()) (hcut_wL_lawOf_1224 : ∀ ⦃X_fm0_piled X_fm0_clock X_fm0_groups X_fm0_wrong X_am6961 M_am6961 F_am6961 S_am6961 N_am6961 X_am6966 X_am6967 X_am6968 X_am6969 X_am69610 X_am69611 X_am69612 X_am69613 : Nat⦄ ⦃fm0_op fm0_piled fm0_clock fm0_groups fm0_wrong : Int32⦄ ⦃am6961 am6962 am6963 am6964 am6965 am6966 am6967 am6968 am6969 am69610 am69611 am69612 am69613 : Nat → Int32⦄, cut_wL_lawOf_1224 X_fm0_piled X_fm0_clock X_fm0_groups X_fm0_wrong X_am6961 M_am6961 F_am6961 S_am6961 N_am6961 X_am6966 X_am6967 X_am6968 X_am6969 X_am69610 X_am69611 X_am69612 X_am69613 = true → ab_rv e X_fm0_piled fm0_piled → ab_rv e X_fm0_clock fm0_clock → ab_rv e X_fm0_groups fm0_groups → ab_rv e X_fm0_wrong fm0_wrong → ab_rg e X_am6961 M_am6961 F_am6961 S_am6961 N_am6961 fm0_op am6961 am6962 am6963 am6964 am6965 → ab_ra e 12 X_am6966 am6966 → ab_ra e 12 X_am6967 am6967 → ab_ra e 12 X_am6968 am6968 → ab_ra e 12 X_am6969 am6969 → ab_ra e 12 X_am69610 am69610 → ab_ra e 12 X_am69611 am69611 → ab_ra e 12 X_am69612 am69612 → ab_ra e 12 X_am69613 am69613 → ∃ fu : Nat, wL_lawOf_1224 post mc ms kc ks fu 0 fm0_op fm0_piled fm0_clock fm0_groups fm0_wrong am6961 am6962 am6963 am6964 am6965 am6966 am6967 am6968 am6969 am69610 am69611 am69612 am69613) (h_x6 : ab_rv e X_x6 x6) (h_x7 : ab_rv e X_x7 x7) (h_x8 : ab_rv e X_x8 x8) (h_x10 : ab_rv e X_x10 x10) (h_x11 : ab_rv e X_x11 x11) (h_z0 : ab_rv e X_z0 z0) (h_fm0_piled : ab_rv e X_fm0_piled fm0_piled) (h_fm0_clock : ab_rv e X_fm0_clock fm0_clock) (h_fm0_groups : ab_rv e X_fm0_groups fm0_groups) (h_fm0_wrong : ab_rv e X_fm0_wrong fm0_wrong) (g_am6141 : ab_rg e X_am6141 M_am6141 F_am6141 S_am6141 N_am6141 fm0_op am6141 am6142 am6143 am6144 am6145) (h_am6146 : ab_ra e 12 X_am6146 am6146) (h_am6147 : ab_ra e 12 X_am6147 am6147) (h_am6148 : ab_ra e 12 X_am6148 am6148) (h_am6149 : ab_ra e 12 X_am6149 am6149) (h_am61410 : ab_ra e 12 X_am61410 am61410) (h_am61411 : ab_ra e 12 X_am61411 am61411) (h_am61412 : ab_ra e 12 X_am61412 am61412) (h_am61413 : ab_ra e 12 X_am61413 am61413) : wL_lawOf_686 post mc ms x6 x7 x8 x10 x11 z0 kc ks fm0_op fm0_piled fm0_clock fm0_groups fm0_wrong am6141 am6142 am6143 am6144 am6145 am6146 am6147 am6148 am6149 am61410 am61411 am61412 am61413 := by
  unfold wL_lawOf_686
  refine sz_arrow hb ?_ g_am6141 h_fm0_piled h_fm0_clock h_fm0_groups h_fm0_wrong h_am6146 h_am6147 h_am6148 h_am6149 h_am61410 h_am61411 h_am61412 h_am61413 h_x7 h_x6 h_x8
  intro X_r_970 X_am6961_978 M_am6961_978 F_am6961_978 S_am6961_978 N_am6961_978 X_fm0_piled_972 X_fm0_clock_973 X_fm0_groups_974 X_fm0_wrong_975 X_am6966_993 X_am6967_996 X_am6968_999 X_am6969_1002 X_am69610_1005 X_am69611_1008 X_am69612_1011 X_am69613_1014 r_970 fm0_op_971 fm0_piled_972 fm0_clock_973 fm0_groups_974 fm0_wrong_975 am6961_978 am6962_981 am6963_984 am6964_987 am6965_990 am6966_993 am6967_996 am6968_999 am6969_1002 am69610_1005 am69611_1008 am69612_1011 am69613_1014 hb h_r_970 g_am6961_978 h_fm0_piled_972 h_fm0_clock_973 h_fm0_groups_974 h_fm0_wrong_975 h_am6966_993 h_am6967_996 h_am6968_999 h_am6969_1002 h_am69610_1005 h_am69611_1008 h_am69612_1011 h_am69613_1014
  refine ab_eqS hb h_z0 ab_l0 (fun hb => ?_) (fun hb => ?_)
  · exact sz_lawOf_709 hb hk hcut_wL_lawOf_1224 h_x6 h_x7 h_x8 h_x10 h_x11 h_z0 ab_m1 h_r_970 h_fm0_piled_972 h_fm0_clock_973 h_fm0_groups_974 h_fm0_wrong_975 g_am6961_978 h_am6966_993 h_am6967_996 h_am6968_999 h_am6969_1002 h_am69610_1005 h_am69611_1008 h_am69612_1011 h_am69613_1014
  · exact sz_lawOf_709 hb hk hcut_wL_lawOf_1224 h_x6 h_x7 h_x8 h_x10 h_x11 h_z0 ab_l0 h_r_970 h_fm0_piled_972 h_fm0_clock_973 h_fm0_groups_974 h_fm0_wrong_975 g_am6961_978 h_am6966_993 h_am6967_996 h_am6968_999 h_am6969_1002 h_am69610_1005 h_am69611_1008 h_am69612_1011 h_am69613_1014
noncomputable def bz_lawOf_685 (k : Nat → Bool) (cut_wL_lawOf_1224 : Nat → Nat → Nat → Nat → Nat → Nat → Nat → Nat → Nat → Nat → Nat → Nat → Nat → Nat → Nat → Nat → Nat → Bool) (X_x6 X_x7 X_x8 X_x10 X_x11 X_fm0_piled X_fm0_clock X_fm0_groups X_fm0_wrong X_am6141 M_am6141 F_am6141 S_am6141 N_am6141 X_am6146 X_am6147 X_am6148 X_am6149 X_am61410 X_am61411 X_am61412 X_am61413 : Nat) : Bool :=
  (bz_lawOf_686 k cut_wL_lawOf_1224 X_x6 X_x7 X_x8 X_x10 X_x11 16 X_fm0_piled X_fm0_clock X_fm0_groups X_fm0_wrong X_am6141 M_am6141 F_am6141 S_am6141 N_am6141 X_am6146 X_am6147 X_am6148 X_am6149 X_am61410 X_am61411 X_am61412 X_am61413)
theorem sz_lawOf_685 {e : Nat → Int32} {post : Int32 → St0 → Prop} {k : Nat → Bool} {mc ms kc ks : Nat} {cut_wL_lawOf_1224 : Nat → Nat → Nat → Nat → Nat → Nat → Nat → Nat → Nat → Nat → Nat → Nat → Nat → Nat → Nat → Nat → Nat → Bool} {X_x6 X_x7 X_x8 X_x10 X_x11 X_fm0_piled X_fm0_clock X_fm0_groups X_fm0_wrong X_am6141 M_am6141 F_am6141 S_am6141 N_am6141 X_am6146 X_am6147 X_am6148 X_am6149 X_am61410 X_am61411 X_am61412 X_am61413 : Nat} {x6 x7 x8 x10 x11 fm0_op fm0_piled fm0_clock fm0_groups fm0_wrong : Int32} {am6141 am6142 am6143 am6144 am6145 am6146 am6147 am6148 am6149 am61410 am61411 am61412 am61413 : Nat → Int32} (hb : bz_lawOf_685 k cut_wL_lawOf_1224 X_x6 X_x7 X_x8 X_x10 X_x11 X_fm0_piled X_fm0_clock X_fm0_groups X_fm0_wrong X_am6141 M_am6141 F_am6141 S_am6141 N_am6141 X_am6146 X_am6147 X_am6148 X_am6149 X_am61410 X_am61411 X_am61412 X_am61413 = true) (hk : ∀ ⦃R : Nat⦄ ⦃r : Int32⦄, k R = true → ab_rv e R r → post r ()) (hcut_wL_lawOf_1224 : ∀ ⦃X_fm0_piled X_fm0_clock X_fm0_groups X_fm0_wrong X_am6961 M_am6961 F_am6961 S_am6961 N_am6961 X_am6966 X_am6967 X_am6968 X_am6969 X_am69610 X_am69611 X_am69612 X_am69613 : Nat⦄ ⦃fm0_op fm0_piled fm0_clock fm0_groups fm0_wrong : Int32⦄ ⦃am6961 am6962 am6963 am6964 am6965 am6966 am6967 am6968 am6969 am69610 am69611 am69612 am69613 : Nat → Int32⦄, cut_wL_lawOf_1224 X_fm0_piled X_fm0_clock X_fm0_groups X_fm0_wrong X_am6961 M_am6961 F_am6961 S_am6961 N_am6961 X_am6966 X_am6967 X_am6968 X_am6969 X_am69610 X_am69611 X_am69612 X_am69613 = true → ab_rv e X_fm0_piled fm0_piled → ab_rv e X_fm0_clock fm0_clock → ab_rv e X_fm0_groups fm0_groups → ab_rv e X_fm0_wrong fm0_wrong → ab_rg e X_am6961 M_am6961 F_am6961 S_am6961 N_am6961 fm0_op am6961 am6962 am6963 am6964 am6965 → ab_ra e 12 X_am6966 am6966 → ab_ra e 12 X_am6967 am6967 → ab_ra e 12 X_am6968 am6968 → ab_ra e 12 X_am6969 am6969 → ab_ra e 12 X_am69610 am69610 → ab_ra e 12 X_am69611 am69611 → ab_ra e 12 X_am69612 am69612 → ab_ra e 12 X_am69613 am69613 → ∃ fu : Nat, wL_lawOf_1224 post mc ms kc ks fu 0 fm0_op fm0_piled fm0_clock fm0_groups fm0_wrong am6961 am6962 am6963 am6964 am6965 am6966 am6967 am6968 am6969 am69610 am69611 am69612 am69613) (h_x6 : ab_rv e X_x6 x6) (h_x7 : ab_rv e X_x7 x7) (h_x8 : ab_rv e X_x8 x8) (h_x10 : ab_rv e X_x10 x10) (h_x11 : ab_rv e X_x11 x11) (h_fm0_piled : ab_rv e X_fm0_piled fm0_piled) (h_fm0_clock : ab_rv e X_fm0_clock fm0_clock) (h_fm0_groups : ab_rv e X_fm0_groups fm0_groups) (h_fm0_wrong : ab_rv e X_fm0_wrong fm0_wrong) (g_am6141 : ab_rg e X_am6141 M_am6141 F_am6141 S_am6141 N_am6141 fm0_op am6141 am6142 am6143 am6144 am6145) (h_am6146 : ab_ra e 12 X_am6146 am6146) (h_am6147 : ab_ra e 12 X_am6147 am6147) (h_am6148 : ab_ra e 12 X_am6148 am6148) (h_am6149 : ab_ra e 12 X_am6149 am6149) (h_am61410 : ab_ra e 12 X_am61410 am61410) (h_am61411 : ab_ra e 12 X_am61411 am61411) (h_am61412 : ab_ra e 12 X_am61412 am61412) (h_am61413 : ab_ra e 12 X_am61413 am61413) : wL_lawOf_685 post mc ms x6 x7 x8 x10 x11 kc ks fm0_op fm0_piled fm0_clock fm0_groups fm0_wrong am6141 am6142 am6143 am6144 am6145 am6146 am6147 am6148 am6149 am61410 am61411 am61412 am61413 := by
  exact sz_lawOf_686 hb hk hcut_wL_lawOf_1224 h_x6 h_x7 h_x8 h_x10 h_x11 ab_l0 h_fm0_piled h_fm0_clock h_fm0_groups h_fm0_wrong g_am6141 h_am6146 h_am6147 h_am6148 h_am6149 h_am61410 h_am61411 h_am61412 h_am61413
noncomputable def bz_lawOf_651 (k : Nat → Bool) (cut_wL_lawOf_1224 : Nat → Nat → Nat → Nat → Nat → Nat → Nat → Nat → Nat → Nat → Nat → Nat → Nat → Nat → Nat → Nat → Nat → Bool) (X_x6 X_x7 X_x8 X_x10 X_z0 X_fm0_piled X_fm0_clock X_fm0_groups X_fm0_wrong X_am6141 M_am6141 F_am6141 S_am6141 N_am6141 X_am6146 X_am6147 X_am6148 X_am6149 X_am61410 X_am61411 X_am61412 X_am61413 : Nat) : Bool :=
  (ab_eq X_z0 16 (bz_lawOf_685 k cut_wL_lawOf_1224 X_x6 X_x7 X_x8 X_x10 X_z0 X_fm0_piled X_fm0_clock X_fm0_groups X_fm0_wrong X_am6141 M_am6141 F_am6141 S_am6141 N_am6141 X_am6146 X_am6147 X_am6148 X_am6149 X_am61410 X_am61411 X_am61412 X_am61413) (ab_lt X_x6 16 (bz_lawOf_685 k cut_wL_lawOf_1224 X_x6 X_x7 X_x8 X_x10 X_z0 X_fm0_piled X_fm0_clock X_fm0_groups X_fm0_wrong X_am6141 M_am6141 F_am6141 S_am6141 N_am6141 X_am6146 X_am6147 X_am6148 X_am6149 X_am61410 X_am61411 X_am61412 X_am61413) (ab_le 20 X_x6 (bz_lawOf_685 k cut_wL_lawOf_1224 X_x6 X_x7 X_x8 X_x10 X_z0 X_fm0_piled X_fm0_clock X_fm0_groups X_fm0_wrong X_am6141 M_am6141 F_am6141 S_am6141 N_am6141 X_am6146 X_am6147 X_am6148 X_am6149 X_am61410 X_am61411 X_am61412 X_am61413) (ab_lt X_x8 16 (bz_lawOf_685 k cut_wL_lawOf_1224 X_x6 X_x7 X_x8 X_x10 X_z0 X_fm0_piled X_fm0_clock X_fm0_groups X_fm0_wrong X_am6141 M_am6141 F_am6141 S_am6141 N_am6141 X_am6146 X_am6147 X_am6148 X_am6149 X_am61410 X_am61411 X_am61412 X_am61413) (ab_le 116 X_x8 (bz_lawOf_685 k cut_wL_lawOf_1224 X_x6 X_x7 X_x8 X_x10 X_z0 X_fm0_piled X_fm0_clock X_fm0_groups X_fm0_wrong X_am6141 M_am6141 F_am6141 S_am6141 N_am6141 X_am6146 X_am6147 X_am6148 X_am6149 X_am61410 X_am61411 X_am61412 X_am61413) (bz_lawOf_686 k cut_wL_lawOf_1224 X_x6 X_x7 X_x8 X_x10 X_z0 17 X_fm0_piled X_fm0_clock X_fm0_groups X_fm0_wrong X_am6141 M_am6141 F_am6141 S_am6141 N_am6141 X_am6146 X_am6147 X_am6148 X_am6149 X_am61410 X_am61411 X_am61412 X_am61413))))))
theorem sz_lawOf_651 {e : Nat → Int32} {post : Int32 → St0 → Prop} {k : Nat → Bool} {mc ms kc ks : Nat} {cut_wL_lawOf_1224 : Nat → Nat → Nat → Nat → Nat → Nat → Nat → Nat → Nat → Nat → Nat → Nat → Nat → Nat → Nat → Nat → Nat → Bool} {X_x6 X_x7 X_x8 X_x10 X_z0 X_fm0_piled X_fm0_clock X_fm0_groups X_fm0_wrong X_am6141 M_am6141 F_am6141 S_am6141 N_am6141 X_am6146 X_am6147 X_am6148 X_am6149 X_am61410 X_am61411 X_am61412 X_am61413 : Nat} {x6 x7 x8 x10 z0 fm0_op fm0_piled fm0_clock fm0_groups fm0_wrong : Int32} {am6141 am6142 am6143 am6144 am6145 am6146 am6147 am6148 am6149 am61410 am61411 am61412 am61413 : Nat → Int32} (hb : bz_lawOf_651 k cut_wL_lawOf_1224 X_x6 X_x7 X_x8 X_x10 X_z0 X_fm0_piled X_fm0_clock X_fm0_groups X_fm0_wrong X_am6141 M_am6141 F_am6141 S_am6141 N_am6141 X_am6146 X_am6147 X_am6148 X_am6149 X_am61410 X_am61411 X_am61412 X_am61413 = true) (hk : ∀ ⦃R : Nat⦄ ⦃r : Int32⦄, k R = true → ab_rv e R r → post r ()) (hcut_wL_lawOf_1224 : ∀ ⦃X_fm0_piled X_fm0_clock X_fm0_groups X_fm0_wrong X_am6961 M_am6961 F_am6961 S_am6961 N_am6961 X_am6966 X_am6967 X_am6968 X_am6969 X_am69610 X_am69611 X_am69612 X_am69613 : Nat⦄ ⦃fm0_op fm0_piled fm0_clock fm0_groups fm0_wrong : Int32⦄ ⦃am6961 am6962 am6963 am6964 am6965 am6966 am6967 am6968 am6969 am69610 am69611 am69612 am69613 : Nat → Int32⦄, cut_wL_lawOf_1224 X_fm0_piled X_fm0_clock X_fm0_groups X_fm0_wrong X_am6961 M_am6961 F_am6961 S_am6961 N_am6961 X_am6966 X_am6967 X_am6968 X_am6969 X_am69610 X_am69611 X_am69612 X_am69613 = true → ab_rv e X_fm0_piled fm0_piled → ab_rv e X_fm0_clock fm0_clock → ab_rv e X_fm0_groups fm0_groups → ab_rv e X_fm0_wrong fm0_wrong → ab_rg e X_am6961 M_am6961 F_am6961 S_am6961 N_am6961 fm0_op am6961 am6962 am6963 am6964 am6965 → ab_ra e 12 X_am6966 am6966 → ab_ra e 12 X_am6967 am6967 → ab_ra e 12 X_am6968 am6968 → ab_ra e 12 X_am6969 am6969 → ab_ra e 12 X_am69610 am69610 → ab_ra e 12 X_am69611 am69611 → ab_ra e 12 X_am69612 am69612 → ab_ra e 12 X_am69613 am69613 → ∃ fu : Nat, wL_lawOf_1224 post mc ms kc ks fu 0 fm0_op fm0_piled fm0_clock fm0_groups fm0_wrong am6961 am6962 am6963 am6964 am6965 am6966 am6967 am6968 am6969 am69610 am69611 am69612 am69613) (h_x6 : ab_rv e X_x6 x6) (h_x7 : ab_rv e X_x7 x7) (h_x8 : ab_rv e X_x8 x8) (h_x10 : ab_rv e X_x10 x10) (h_z0 : ab_rv e X_z0 z0) (h_fm0_piled : ab_rv e X_fm0_piled fm0_piled) (h_fm0_clock : ab_rv e X_fm0_clock fm0_clock) (h_fm0_groups : ab_rv e X_fm0_groups fm0_groups) (h_fm0_wrong : ab_rv e X_fm0_wrong fm0_wrong) (g_am6141 : ab_rg e X_am6141 M_am6141 F_am6141 S_am6141 N_am6141 fm0_op am6141 am6142 am6143 am6144 am6145) (h_am6146 : ab_ra e 12 X_am6146 am6146) (h_am6147 : ab_ra e 12 X_am6147 am6147) (h_am6148 : ab_ra e 12 X_am6148 am6148) (h_am6149 : ab_ra e 12 X_am6149 am6149) (h_am61410 : ab_ra e 12 X_am61410 am61410) (h_am61411 : ab_ra e 12 X_am61411 am61411) (h_am61412 : ab_ra e 12 X_am61412 am61412) (h_am61413 : ab_ra e 12 X_am61413 am61413) : wL_lawOf_651 post mc ms x6 x7 x8 x10 z0 kc ks fm0_op fm0_piled fm0_clock fm0_groups fm0_wrong am6141 am6142 am6143 am6144 am6145 am6146 am6147 am6148 am6149 am61410 am61411 am61412 am61413 := by
  refine ab_eqS hb h_z0 ab_l0 (fun hb => ?_) (fun hb => ?_)
  · exact sz_lawOf_685 hb hk hcut_wL_lawOf_1224 h_x6 h_x7 h_x8 h_x10 h_z0 h_fm0_piled h_fm0_clock h_fm0_groups h_fm0_wrong g_am6141 h_am6146 h_am6147 h_am6148 h_am6149 h_am61410 h_am61411 h_am61412 h_am61413
  · refine ab_ltS hb h_x6 ab_l0 (fun hb => ?_) (fun hb => ?_)
    · exact sz_lawOf_685 hb hk hcut_wL_lawOf_1224 h_x6 h_x7 h_x8 h_x10 h_z0 h_fm0_piled h_fm0_clock h_fm0_groups h_fm0_wrong g_am6141 h_am6146 h_am6147 h_am6148 h_am6149 h_am61410 h_am61411 h_am61412 h_am61413
    · refine ab_leS hb ab_l4 h_x6 (fun hb => ?_) (fun hb => ?_)
      · exact sz_lawOf_685 hb hk hcut_wL_lawOf_1224 h_x6 h_x7 h_x8 h_x10 h_z0 h_fm0_piled h_fm0_clock h_fm0_groups h_fm0_wrong g_am6141 h_am6146 h_am6147 h_am6148 h_am6149 h_am61410 h_am61411 h_am61412 h_am61413
      · refine ab_ltS hb h_x8 ab_l0 (fun hb => ?_) (fun hb => ?_)
        · exact sz_lawOf_685 hb hk hcut_wL_lawOf_1224 h_x6 h_x7 h_x8 h_x10 h_z0 h_fm0_piled h_fm0_clock h_fm0_groups h_fm0_wrong g_am6141 h_am6146 h_am6147 h_am6148 h_am6149 h_am61410 h_am61411 h_am61412 h_am61413
        · refine ab_leS hb ab_l100 h_x8 (fun hb => ?_) (fun hb => ?_)
          · exact sz_lawOf_685 hb hk hcut_wL_lawOf_1224 h_x6 h_x7 h_x8 h_x10 h_z0 h_fm0_piled h_fm0_clock h_fm0_groups h_fm0_wrong g_am6141 h_am6146 h_am6147 h_am6148 h_am6149 h_am61410 h_am61411 h_am61412 h_am61413
          · exact sz_lawOf_686 hb hk hcut_wL_lawOf_1224 h_x6 h_x7 h_x8 h_x10 h_z0 ab_l1 h_fm0_piled h_fm0_clock h_fm0_groups h_fm0_wrong g_am6141 h_am6146 h_am6147 h_am6148 h_am6149 h_am61410 h_am61411 h_am61412 h_am61413
noncomputable def bz_lawOf_650 (k : Nat → Bool) (cut_wL_lawOf_1224 : Nat → Nat → Nat → Nat → Nat → Nat → Nat → Nat → Nat → Nat → Nat → Nat → Nat → Nat → Nat → Nat → Nat → Bool) (X_x6 X_x7 X_x8 X_x10 X_fm0_piled X_fm0_clock X_fm0_groups X_fm0_wrong X_am6141 M_am6141 F_am6141 S_am6141 N_am6141 X_am6146 X_am6147 X_am6148 X_am6149 X_am61410 X_am61411 X_am61412 X_am61413 : Nat) : Bool :=
  (bz_lawOf_651 k cut_wL_lawOf_1224 X_x6 X_x7 X_x8 X_x10 16 X_fm0_piled X_fm0_clock X_fm0_groups X_fm0_wrong X_am6141 M_am6141 F_am6141 S_am6141 N_am6141 X_am6146 X_am6147 X_am6148 X_am6149 X_am61410 X_am61411 X_am61412 X_am61413)
theorem sz_lawOf_650 {e : Nat → Int32} {post : Int32 → St0 → Prop} {k : Nat → Bool} {mc ms kc ks : Nat} {cut_wL_lawOf_1224 : Nat → Nat → Nat → Nat → Nat → Nat → Nat → Nat → Nat → Nat → Nat → Nat → Nat → Nat → Nat → Nat → Nat → Bool} {X_x6 X_x7 X_x8 X_x10 X_fm0_piled X_fm0_clock X_fm0_groups X_fm0_wrong X_am6141 M_am6141 F_am6141 S_am6141 N_am6141 X_am6146 X_am6147 X_am6148 X_am6149 X_am61410 X_am61411 X_am61412 X_am61413 : Nat} {x6 x7 x8 x10 fm0_op fm0_piled fm0_clock fm0_groups fm0_wrong : Int32} {am6141 am6142 am6143 am6144 am6145 am6146 am6147 am6148 am6149 am61410 am61411 am61412 am61413 : Nat → Int32} (hb : bz_lawOf_650 k cut_wL_lawOf_1224 X_x6 X_x7 X_x8 X_x10 X_fm0_piled X_fm0_clock X_fm0_groups X_fm0_wrong X_am6141 M_am6141 F_am6141 S_am6141 N_am6141 X_am6146 X_am6147 X_am6148 X_am6149 X_am61410 X_am61411 X_am61412 X_am61413 = true) (hk : ∀ ⦃R : Nat⦄ ⦃r : Int32⦄, k R = true → ab_rv e R r → post r ()) (hcut_wL_lawOf_1224 : ∀ ⦃X_fm0_piled X_fm0_clock X_fm0_groups X_fm0_wrong X_am6961 M_am6961 F_am6961 S_am6961 N_am6961 X_am6966 X_am6967 X_am6968 X_am6969 X_am69610 X_am69611 X_am69612 X_am69613 : Nat⦄ ⦃fm0_op fm0_piled fm0_clock fm0_groups fm0_wrong : Int32⦄ ⦃am6961 am6962 am6963 am6964 am6965 am6966 am6967 am6968 am6969 am69610 am69611 am69612 am69613 : Nat → Int32⦄, cut_wL_lawOf_1224 X_fm0_piled X_fm0_clock X_fm0_groups X_fm0_wrong X_am6961 M_am6961 F_am6961 S_am6961 N_am6961 X_am6966 X_am6967 X_am6968 X_am6969 X_am69610 X_am69611 X_am69612 X_am69613 = true → ab_rv e X_fm0_piled fm0_piled → ab_rv e X_fm0_clock fm0_clock → ab_rv e X_fm0_groups fm0_groups → ab_rv e X_fm0_wrong fm0_wrong → ab_rg e X_am6961 M_am6961 F_am6961 S_am6961 N_am6961 fm0_op am6961 am6962 am6963 am6964 am6965 → ab_ra e 12 X_am6966 am6966 → ab_ra e 12 X_am6967 am6967 → ab_ra e 12 X_am6968 am6968 → ab_ra e 12 X_am6969 am6969 → ab_ra e 12 X_am69610 am69610 → ab_ra e 12 X_am69611 am69611 → ab_ra e 12 X_am69612 am69612 → ab_ra e 12 X_am69613 am69613 → ∃ fu : Nat, wL_lawOf_1224 post mc ms kc ks fu 0 fm0_op fm0_piled fm0_clock fm0_groups fm0_wrong am6961 am6962 am6963 am6964 am6965 am6966 am6967 am6968 am6969 am69610 am69611 am69612 am69613) (h_x6 : ab_rv e X_x6 x6) (h_x7 : ab_rv e X_x7 x7) (h_x8 : ab_rv e X_x8 x8) (h_x10 : ab_rv e X_x10 x10) (h_fm0_piled : ab_rv e X_fm0_piled fm0_piled) (h_fm0_clock : ab_rv e X_fm0_clock fm0_clock) (h_fm0_groups : ab_rv e X_fm0_groups fm0_groups) (h_fm0_wrong : ab_rv e X_fm0_wrong fm0_wrong) (g_am6141 : ab_rg e X_am6141 M_am6141 F_am6141 S_am6141 N_am6141 fm0_op am6141 am6142 am6143 am6144 am6145) (h_am6146 : ab_ra e 12 X_am6146 am6146) (h_am6147 : ab_ra e 12 X_am6147 am6147) (h_am6148 : ab_ra e 12 X_am6148 am6148) (h_am6149 : ab_ra e 12 X_am6149 am6149) (h_am61410 : ab_ra e 12 X_am61410 am61410) (h_am61411 : ab_ra e 12 X_am61411 am61411) (h_am61412 : ab_ra e 12 X_am61412 am61412) (h_am61413 : ab_ra e 12 X_am61413 am61413) : wL_lawOf_650 post mc ms x6 x7 x8 x10 kc ks fm0_op fm0_piled fm0_clock fm0_groups fm0_wrong am6141 am6142 am6143 am6144 am6145 am6146 am6147 am6148 am6149 am61410 am61411 am61412 am61413 := by
  exact sz_lawOf_651 hb hk hcut_wL_lawOf_1224 h_x6 h_x7 h_x8 h_x10 ab_l0 h_fm0_piled h_fm0_clock h_fm0_groups h_fm0_wrong g_am6141 h_am6146 h_am6147 h_am6148 h_am6149 h_am61410 h_am61411 h_am61412 h_am61413
noncomputable def bz_lawOf_628 (k : Nat → Bool) (cut_wL_lawOf_1224 : Nat → Nat → Nat → Nat → Nat → Nat → Nat → Nat → Nat → Nat → Nat → Nat → Nat → Nat → Nat → Nat → Nat → Bool) (X_x6 X_x7 X_x8 X_x10 X_z0 X_z1 X_fm0_piled X_fm0_clock X_fm0_groups X_fm0_wrong X_am6141 M_am6141 F_am6141 S_am6141 N_am6141 X_am6146 X_am6147 X_am6148 X_am6149 X_am61410 X_am61411 X_am61412 X_am61413 : Nat) : Bool :=
  (ab_eq X_z1 X_z0 (ab_lt X_x7 16 (bz_lawOf_650 k cut_wL_lawOf_1224 X_x6 X_x7 X_x8 X_x10 X_fm0_piled X_fm0_clock X_fm0_groups X_fm0_wrong X_am6141 M_am6141 F_am6141 S_am6141 N_am6141 X_am6146 X_am6147 X_am6148 X_am6149 X_am61410 X_am61411 X_am61412 X_am61413) (ab_le 160 X_x7 (bz_lawOf_650 k cut_wL_lawOf_1224 X_x6 X_x7 X_x8 X_x10 X_fm0_piled X_fm0_clock X_fm0_groups X_fm0_wrong X_am6141 M_am6141 F_am6141 S_am6141 N_am6141 X_am6146 X_am6147 X_am6148 X_am6149 X_am61410 X_am61411 X_am61412 X_am61413) (bz_lawOf_651 k cut_wL_lawOf_1224 X_x6 X_x7 X_x8 X_x10 17 X_fm0_piled X_fm0_clock X_fm0_groups X_fm0_wrong X_am6141 M_am6141 F_am6141 S_am6141 N_am6141 X_am6146 X_am6147 X_am6148 X_am6149 X_am61410 X_am61411 X_am61412 X_am61413))) (k 16))
theorem sz_lawOf_628 {e : Nat → Int32} {post : Int32 → St0 → Prop} {k : Nat → Bool} {mc ms kc ks : Nat} {cut_wL_lawOf_1224 : Nat → Nat → Nat → Nat → Nat → Nat → Nat → Nat → Nat → Nat → Nat → Nat → Nat → Nat → Nat → Nat → Nat → Bool} {X_x6 X_x7 X_x8 X_x10 X_z0 X_z1 X_fm0_piled X_fm0_clock X_fm0_groups X_fm0_wrong X_am6141 M_am6141 F_am6141 S_am6141 N_am6141 X_am6146 X_am6147 X_am6148 X_am6149 X_am61410 X_am61411 X_am61412 X_am61413 : Nat} {x6 x7 x8 x10 z0 z1 fm0_op fm0_piled fm0_clock fm0_groups fm0_wrong : Int32} {am6141 am6142 am6143 am6144 am6145 am6146 am6147 am6148 am6149 am61410 am61411 am61412 am61413 : Nat → Int32} (hb : bz_lawOf_628 k cut_wL_lawOf_1224 X_x6 X_x7 X_x8 X_x10 X_z0 X_z1 X_fm0_piled X_fm0_clock X_fm0_groups X_fm0_wrong X_am6141 M_am6141 F_am6141 S_am6141 N_am6141 X_am6146 X_am6147 X_am6148 X_am6149 X_am61410 X_am61411 X_am61412 X_am61413 = true) (hk : ∀ ⦃R : Nat⦄ ⦃r : Int32⦄, k R = true → ab_rv e R r → post r ()) (hcut_wL_lawOf_1224 : ∀ ⦃X_fm0_piled X_fm0_clock X_fm0_groups X_fm0_wrong X_am6961 M_am6961 F_am6961 S_am6961 N_am6961 X_am6966 X_am6967 X_am6968 X_am6969 X_am69610 X_am69611 X_am69612 X_am69613 : Nat⦄ ⦃fm0_op fm0_piled fm0_clock fm0_groups fm0_wrong : Int32⦄ ⦃am6961 am6962 am6963 am6964 am6965 am6966 am6967 am6968 am6969 am69610 am69611 am69612 am69613 : Nat → Int32⦄, cut_wL_lawOf_1224 X_fm0_piled X_fm0_clock X_fm0_groups X_fm0_wrong X_am6961 M_am6961 F_am6961 S_am6961 N_am6961 X_am6966 X_am6967 X_am6968 X_am6969 X_am69610 X_am69611 X_am69612 X_am69613 = true → ab_rv e X_fm0_piled fm0_piled → ab_rv e X_fm0_clock fm0_clock → ab_rv e X_fm0_groups fm0_groups → ab_rv e X_fm0_wrong fm0_wrong → ab_rg e X_am6961 M_am6961 F_am6961 S_am6961 N_am6961 fm0_op am6961 am6962 am6963 am6964 am6965 → ab_ra e 12 X_am6966 am6966 → ab_ra e 12 X_am6967 am6967 → ab_ra e 12 X_am6968 am6968 → ab_ra e 12 X_am6969 am6969 → ab_ra e 12 X_am69610 am69610 → ab_ra e 12 X_am69611 am69611 → ab_ra e 12 X_am69612 am69612 → ab_ra e 12 X_am69613 am69613 → ∃ fu : Nat, wL_lawOf_1224 post mc ms kc ks fu 0 fm0_op fm0_piled fm0_clock fm0_groups fm0_wrong am6961 am6962 am6963 am6964 am6965 am6966 am6967 am6968 am6969 am69610 am69611 am69612 am69613) (h_x6 : ab_rv e X_x6 x6) (h_x7 : ab_rv e X_x7 x7) (h_x8 : ab_rv e X_x8 x8) (h_x10 : ab_rv e X_x10 x10) (h_z0 : ab_rv e X_z0 z0) (h_z1 : ab_rv e X_z1 z1) (h_fm0_piled : ab_rv e X_fm0_piled fm0_piled) (h_fm0_clock : ab_rv e X_fm0_clock fm0_clock) (h_fm0_groups : ab_rv e X_fm0_groups fm0_groups) (h_fm0_wrong : ab_rv e X_fm0_wrong fm0_wrong) (g_am6141 : ab_rg e X_am6141 M_am6141 F_am6141 S_am6141 N_am6141 fm0_op am6141 am6142 am6143 am6144 am6145) (h_am6146 : ab_ra e 12 X_am6146 am6146) (h_am6147 : ab_ra e 12 X_am6147 am6147) (h_am6148 : ab_ra e 12 X_am6148 am6148) (h_am6149 : ab_ra e 12 X_am6149 am6149) (h_am61410 : ab_ra e 12 X_am61410 am61410) (h_am61411 : ab_ra e 12 X_am61411 am61411) (h_am61412 : ab_ra e 12 X_am61412 am61412) (h_am61413 : ab_ra e 12 X_am61413 am61413) : wL_lawOf_628 post mc ms x6 x7 x8 x10 z0 z1 kc ks fm0_op fm0_piled fm0_clock fm0_groups fm0_wrong am6141 am6142 am6143 am6144 am6145 am6146 am6147 am6148 am6149 am61410 am61411 am61412 am61413 := by
  refine ab_eqS hb h_z1 h_z0 (fun hb => ?_) (fun hb => ?_)
  · refine ab_ltS hb h_x7 ab_l0 (fun hb => ?_) (fun hb => ?_)
    · exact sz_lawOf_650 hb hk hcut_wL_lawOf_1224 h_x6 h_x7 h_x8 h_x10 h_fm0_piled h_fm0_clock h_fm0_groups h_fm0_wrong g_am6141 h_am6146 h_am6147 h_am6148 h_am6149 h_am61410 h_am61411 h_am61412 h_am61413
    · refine ab_leS hb ab_l144 h_x7 (fun hb => ?_) (fun hb => ?_)
      · exact sz_lawOf_650 hb hk hcut_wL_lawOf_1224 h_x6 h_x7 h_x8 h_x10 h_fm0_piled h_fm0_clock h_fm0_groups h_fm0_wrong g_am6141 h_am6146 h_am6147 h_am6148 h_am6149 h_am61410 h_am61411 h_am61412 h_am61413
      · exact sz_lawOf_651 hb hk hcut_wL_lawOf_1224 h_x6 h_x7 h_x8 h_x10 ab_l1 h_fm0_piled h_fm0_clock h_fm0_groups h_fm0_wrong g_am6141 h_am6146 h_am6147 h_am6148 h_am6149 h_am61410 h_am61411 h_am61412 h_am61413
  · exact hk hb ab_l0
noncomputable def bz_lawOf_516 (k : Nat → Bool) (cut_wL_lawOf_628 : Nat → Nat → Nat → Nat → Nat → Nat → Nat → Nat → Nat → Nat → Nat → Nat → Nat → Nat → Nat → Nat → Nat → Nat → Nat → Nat → Nat → Nat → Nat → Bool) (X_x0 X_x6 X_x7 X_x8 X_x10 : Nat) (n : Nat) : Nat → Nat → Nat → Nat → Nat → Nat → Nat → Nat → Nat → Nat → Nat → Nat → Nat → Nat → Nat → Nat → Nat → Nat → Bool :=
  Nat.rec (motive := fun _ => Nat → Nat → Nat → Nat → Nat → Nat → Nat → Nat → Nat → Nat → Nat → Nat → Nat → Nat → Nat → Nat → Nat → Nat → Bool) (fun _ _ _ _ _ _ _ _ _ _ _ _ _ _ _ _ _ _ => false) (fun _ ih => fun X_x11 X_fm0_piled X_fm0_clock X_fm0_groups X_fm0_wrong X_am3811 M_am3811 F_am3811 S_am3811 N_am3811 X_am3816 X_am3817 X_am3818 X_am3819 X_am38110 X_am38111 X_am38112 X_am38113 => (ab_le 28 X_x11 (bz_node (fun X_r_691 X_am5521_699 M_am5521_699 F_am5521_699 S_am5521_699 N_am5521_699 X_fm0_piled_693 X_fm0_clock_694 X_fm0_groups_695 X_fm0_wrong_696 X_am5526_714 X_am5527_717 X_am5528_720 X_am5529_723 X_am55210_726 X_am55211_729 X_am55212_732 X_am55213_735 => (ab_eq X_r_691 13 (bz_node (fun X_r_737 X_am5651_745 M_am5651_745 F_am5651_745 S_am5651_745 N_am5651_745 X_fm0_piled_739 X_fm0_clock_740 X_fm0_groups_741 X_fm0_wrong_742 X_am5656_760 X_am5657_763 X_am5658_766 X_am5659_769 X_am56510_772 X_am56511_775 X_am56512_778 X_am56513_781 => (ab_eq X_r_737 15 (bz_setNode (fun X_r_783 X_am5781_791 M_am5781_791 F_am5781_791 S_am5781_791 N_am5781_791 X_fm0_piled_785 X_fm0_clock_786 X_fm0_groups_787 X_fm0_wrong_788 X_am5786_806 X_am5787_809 X_am5788_812 X_am5789_815 X_am57810_818 X_am57811_821 X_am57812_824 X_am57813_827 => (ab_eq X_r_783 15 (bz_setNode (fun X_r_829 X_am5911_837 M_am5911_837 F_am5911_837 S_am5911_837 N_am5911_837 X_fm0_piled_831 X_fm0_clock_832 X_fm0_groups_833 X_fm0_wrong_834 X_am5916_852 X_am5917_855 X_am5918_858 X_am5919_861 X_am59110_864 X_am59111_867 X_am59112_870 X_am59113_873 => (ab_eq X_r_829 15 (bz_setNode (fun X_r_875 X_am6031_883 M_am6031_883 F_am6031_883 S_am6031_883 N_am6031_883 X_fm0_piled_877 X_fm0_clock_878 X_fm0_groups_879 X_fm0_wrong_880 X_am6036_898 X_am6037_901 X_am6038_904 X_am6039_907 X_am60310_910 X_am60311_913 X_am60312_916 X_am60313_919 => (ab_eq X_r_875 19 (bz_rounds (fun X_r_921 X_am6141_929 M_am6141_929 F_am6141_929 S_am6141_929 N_am6141_929 X_fm0_piled_923 X_fm0_clock_924 X_fm0_groups_925 X_fm0_wrong_926 X_am6146_944 X_am6147_947 X_am6148_950 X_am6149_953 X_am61410_956 X_am61411_959 X_am61412_962 X_am61413_965 => (ab_eq X_x10 16 (cut_wL_lawOf_628 X_x6 X_x7 X_x8 X_x10 15 X_r_921 X_fm0_piled_923 X_fm0_clock_924 X_fm0_groups_925 X_fm0_wrong_926 X_am6141_929 M_am6141_929 F_am6141_929 S_am6141_929 N_am6141_929 X_am6146_944 X_am6147_947 X_am6148_950 X_am6149_953 X_am61410_956 X_am61411_959 X_am61412_962 X_am61413_965) (cut_wL_lawOf_628 X_x6 X_x7 X_x8 X_x10 28 X_r_921 X_fm0_piled_923 X_fm0_clock_924 X_fm0_groups_925 X_fm0_wrong_926 X_am6141_929 M_am6141_929 F_am6141_929 S_am6141_929 N_am6141_929 X_am6146_944 X_am6147_947 X_am6148_950 X_am6149_953 X_am61410_956 X_am61411_959 X_am61412_962 X_am61413_965))) X_am6031_883 M_am6031_883 F_am6031_883 S_am6031_883 N_am6031_883 X_fm0_piled_877 X_fm0_clock_878 X_fm0_groups_879 X_fm0_wrong_880 X_am6036_898 X_am6037_901 X_am6038_904 X_am6039_907 X_am60310_910 X_am60311_913 X_am60312_916 X_am60313_919 X_x6) (k 16))) X_am5911_837 M_am5911_837 F_am5911_837 S_am5911_837 N_am5911_837 X_fm0_piled_831 X_fm0_clock_832 X_fm0_groups_833 X_fm0_wrong_834 X_am5916_852 X_am5917_855 X_am5918_858 X_am5919_861 X_am59110_864 X_am59111_867 X_am59112_870 X_am59113_873 19 17 X_x0) (k 16))) X_am5781_791 M_am5781_791 F_am5781_791 S_am5781_791 N_am5781_791 X_fm0_piled_785 X_fm0_clock_786 X_fm0_groups_787 X_fm0_wrong_788 X_am5786_806 X_am5787_809 X_am5788_812 X_am5789_815 X_am57810_818 X_am57811_821 X_am57812_824 X_am57813_827 19 24 16) (k 16))) X_am5651_745 M_am5651_745 F_am5651_745 S_am5651_745 N_am5651_745 X_fm0_piled_739 X_fm0_clock_740 X_fm0_groups_741 X_fm0_wrong_742 X_am5656_760 X_am5657_763 X_am5658_766 X_am5659_769 X_am56510_772 X_am56511_775 X_am56512_778 X_am56513_781 28 16 16) (k 16))) X_am5521_699 M_am5521_699 F_am5521_699 S_am5521_699 N_am5521_699 X_fm0_piled_693 X_fm0_clock_694 X_fm0_groups_695 X_fm0_wrong_696 X_am5526_714 X_am5527_717 X_am5528_720 X_am5529_723 X_am55210_726 X_am55211_729 X_am55212_732 X_am55213_735 24 16) (k 16))) X_am3811 M_am3811 F_am3811 S_am3811 N_am3811 X_fm0_piled X_fm0_clock X_fm0_groups X_fm0_wrong X_am3816 X_am3817 X_am3818 X_am3819 X_am38110 X_am38111 X_am38112 X_am38113 16 16) (bz_node (fun X_r_1909 X_am5321_1917 M_am5321_1917 F_am5321_1917 S_am5321_1917 N_am5321_1917 X_fm0_piled_1911 X_fm0_clock_1912 X_fm0_groups_1913 X_fm0_wrong_1914 X_am5326_1932 X_am5327_1935 X_am5328_1938 X_am5329_1941 X_am53210_1944 X_am53211_1947 X_am53212_1950 X_am53213_1953 => (ab_eq X_r_1909 X_x11 (ab_str (ab_add X_x11 17) (fun X_x11_1955 => (ih X_x11_1955 X_fm0_piled_1911 X_fm0_clock_1912 X_fm0_groups_1913 X_fm0_wrong_1914 X_am5321_1917 M_am5321_1917 F_am5321_1917 S_am5321_1917 N_am5321_1917 X_am5326_1932 X_am5327_1935 X_am5328_1938 X_am5329_1941 X_am53210_1944 X_am53211_1947 X_am53212_1950 X_am53213_1953))) (k 16))) X_am3811 M_am3811 F_am3811 S_am3811 N_am3811 X_fm0_piled X_fm0_clock X_fm0_groups X_fm0_wrong X_am3816 X_am3817 X_am3818 X_am3819 X_am38110 X_am38111 X_am38112 X_am38113 (ab_and X_x11 23) X_x11))) n
theorem sz_lawOf_516 {e : Nat → Int32} {post : Int32 → St0 → Prop} {k : Nat → Bool} {mc ms kc ks : Nat} {cut_wL_lawOf_628 : Nat → Nat → Nat → Nat → Nat → Nat → Nat → Nat → Nat → Nat → Nat → Nat → Nat → Nat → Nat → Nat → Nat → Nat → Nat → Nat → Nat → Nat → Nat → Bool} {X_x0 X_x6 X_x7 X_x8 X_x10 : Nat} {x0 x6 x7 x8 x10 : Int32} (hk : ∀ ⦃R : Nat⦄ ⦃r : Int32⦄, k R = true → ab_rv e R r → post r ()) (hcut_wL_lawOf_628 : ∀ ⦃X_x6 X_x7 X_x8 X_x10 X_z0 X_z1 X_fm0_piled X_fm0_clock X_fm0_groups X_fm0_wrong X_am6141 M_am6141 F_am6141 S_am6141 N_am6141 X_am6146 X_am6147 X_am6148 X_am6149 X_am61410 X_am61411 X_am61412 X_am61413 : Nat⦄ ⦃x6 x7 x8 x10 z0 z1 fm0_op fm0_piled fm0_clock fm0_groups fm0_wrong : Int32⦄ ⦃am6141 am6142 am6143 am6144 am6145 am6146 am6147 am6148 am6149 am61410 am61411 am61412 am61413 : Nat → Int32⦄, cut_wL_lawOf_628 X_x6 X_x7 X_x8 X_x10 X_z0 X_z1 X_fm0_piled X_fm0_clock X_fm0_groups X_fm0_wrong X_am6141 M_am6141 F_am6141 S_am6141 N_am6141 X_am6146 X_am6147 X_am6148 X_am6149 X_am61410 X_am61411 X_am61412 X_am61413 = true → ab_rv e X_x6 x6 → ab_rv e X_x7 x7 → ab_rv e X_x8 x8 → ab_rv e X_x10 x10 → ab_rv e X_z0 z0 → ab_rv e X_z1 z1 → ab_rv e X_fm0_piled fm0_piled → ab_rv e X_fm0_clock fm0_clock → ab_rv e X_fm0_groups fm0_groups → ab_rv e X_fm0_wrong fm0_wrong → ab_rg e X_am6141 M_am6141 F_am6141 S_am6141 N_am6141 fm0_op am6141 am6142 am6143 am6144 am6145 → ab_ra e 12 X_am6146 am6146 → ab_ra e 12 X_am6147 am6147 → ab_ra e 12 X_am6148 am6148 → ab_ra e 12 X_am6149 am6149 → ab_ra e 12 X_am61410 am61410 → ab_ra e 12 X_am61411 am61411 → ab_ra e 12 X_am61412 am61412 → ab_ra e 12 X_am61413 am61413 → wL_lawOf_628 post mc ms x6 x7 x8 x10 z0 z1 kc ks fm0_op fm0_piled fm0_clock fm0_groups fm0_wrong am6141 am6142 am6143 am6144 am6145 am6146 am6147 am6148 am6149 am61410 am61411 am61412 am61413) (h_x0 : ab_rv e X_x0 x0) (h_x6 : ab_rv e X_x6 x6) (h_x7 : ab_rv e X_x7 x7) (h_x8 : ab_rv e X_x8 x8) (h_x10 : ab_rv e X_x10 x10) : ∀ (n : Nat) ⦃X_x11 X_fm0_piled X_fm0_clock X_fm0_groups X_fm0_wrong X_am3811 M_am3811 F_am3811 S_am3811 N_am3811 X_am3816 X_am3817 X_am3818 X_am3819 X_am38110 X_am38111 X_am38112 X_am38113 : Nat⦄ ⦃x11 fm0_op fm0_piled fm0_clock fm0_groups fm0_wrong : Int32⦄ ⦃am3811 am3812 am3813 am3814 am3815 am3816 am3817 am3818 am3819 am38110 am38111 am38112 am38113 : Nat → Int32⦄, bz_lawOf_516 k cut_wL_lawOf_628 X_x0 X_x6 X_x7 X_x8 X_x10 n X_x11 X_fm0_piled X_fm0_clock X_fm0_groups X_fm0_wrong X_am3811 M_am3811 F_am3811 S_am3811 N_am3811 X_am3816 X_am3817 X_am3818 X_am3819 X_am38110 X_am38111 X_am38112 X_am38113 = true → ab_rv e X_x11 x11 → ab_rv e X_fm0_piled fm0_piled → ab_rv e X_fm0_clock fm0_clock → ab_rv e X_fm0_groups fm0_groups → ab_rv e X_fm0_wrong fm0_wrong → ab_rg e X_am3811 M_am3811 F_am3811 S_am3811 N_am3811 fm0_op am3811 am3812 am3813 am3814 am3815 → ab_ra e 12 X_am3816 am3816 → ab_ra e 12 X_am3817 am3817 → ab_ra e 12 X_am3818 am3818 → ab_ra e 12 X_am3819 am3819 → ab_ra e 12 X_am38110 am38110 → ab_ra e 12 X_am38111 am38111 → ab_ra e 12 X_am38112 am38112 → ab_ra e 12 X_am38113 am38113 → wL_lawOf_516 post mc ms x0 x6 x7 x8 x10 kc ks n x11 fm0_op fm0_piled fm0_clock fm0_groups fm0_wrong am3811 am3812 am3813 am3814 am3815 am3816 am3817 am3818 am3819 am38110 am38111 am38112 am38113 := by
  intro n
  induction n with
  | zero =>
    intro X_x11 X_fm0_piled X_fm0_clock X_fm0_groups X_fm0_wrong X_am3811 M_am3811 F_am3811 S_am3811 N_am3811 X_am3816 X_am3817 X_am3818 X_am3819 X_am38110 X_am38111 X_am38112 X_am38113 x11 fm0_op fm0_piled fm0_clock fm0_groups fm0_wrong am3811 am3812 am3813 am3814 am3815 am3816 am3817 am3818 am3819 am38110 am38111 am38112 am38113 hb h_x11 h_fm0_piled h_fm0_clock h_fm0_groups h_fm0_wrong g_am3811 h_am3816 h_am3817 h_am3818 h_am3819 h_am38110 h_am38111 h_am38112 h_am38113
    exact absurd (show false = true from hb) (by decide)
  | succ n ih =>
    intro X_x11 X_fm0_piled X_fm0_clock X_fm0_groups X_fm0_wrong X_am3811 M_am3811 F_am3811 S_am3811 N_am3811 X_am3816 X_am3817 X_am3818 X_am3819 X_am38110 X_am38111 X_am38112 X_am38113 x11 fm0_op fm0_piled fm0_clock fm0_groups fm0_wrong am3811 am3812 am3813 am3814 am3815 am3816 am3817 am3818 am3819 am38110 am38111 am38112 am38113 hb h_x11 h_fm0_piled h_fm0_clock h_fm0_groups h_fm0_wrong g_am3811 h_am3816 h_am3817 h_am3818 h_am3819 h_am38110 h_am38111 h_am38112 h_am38113
    refine ab_leS hb ab_l12 h_x11 (fun hb => ?_) (fun hb => ?_)
    · refine sz_node hb ?_ g_am3811 h_fm0_piled h_fm0_clock h_fm0_groups h_fm0_wrong h_am3816 h_am3817 h_am3818 h_am3819 h_am38110 h_am38111 h_am38112 h_am38113 ab_l0 ab_l0
      intro X_r_691 X_am5521_699 M_am5521_699 F_am5521_699 S_am5521_699 N_am5521_699 X_fm0_piled_693 X_fm0_clock_694 X_fm0_groups_695 X_fm0_wrong_696 X_am5526_714 X_am5527_717 X_am5528_720 X_am5529_723 X_am55210_726 X_am55211_729 X_am55212_732 X_am55213_735 r_691 fm0_op_692 fm0_piled_693 fm0_clock_694 fm0_groups_695 fm0_wrong_696 am5521_699 am5522_702 am5523_705 am5524_708 am5525_711 am5526_714 am5527_717 am5528_720 am5529_723 am55210_726 am55211_729 am55212_732 am55213_735 hb h_r_691 g_am5521_699 h_fm0_piled_693 h_fm0_clock_694 h_fm0_groups_695 h_fm0_wrong_696 h_am5526_714 h_am5527_717 h_am5528_720 h_am5529_723 h_am55210_726 h_am55211_729 h_am55212_732 h_am55213_735
      refine ab_eqS hb h_r_691 ab_m3 (fun hb => ?_) (fun hb => ?_)
      · refine sz_node hb ?_ g_am5521_699 h_fm0_piled_693 h_fm0_clock_694 h_fm0_groups_695 h_fm0_wrong_696 h_am5526_714 h_am5527_717 h_am5528_720 h_am5529_723 h_am55210_726 h_am55211_729 h_am55212_732 h_am55213_735 ab_l8 ab_l0
        intro X_r_737 X_am5651_745 M_am5651_745 F_am5651_745 S_am5651_745 N_am5651_745 X_fm0_piled_739 X_fm0_clock_740 X_fm0_groups_741 X_fm0_wrong_742 X_am5656_760 X_am5657_763 X_am5658_766 X_am5659_769 X_am56510_772 X_am56511_775 X_am56512_778 X_am56513_781 r_737 fm0_op_738 fm0_piled_739 fm0_clock_740 fm0_groups_741 fm0_wrong_742 am5651_745 am5652_748 am5653_751 am5654_754 am5655_757 am5656_760 am5657_763 am5658_766 am5659_769 am56510_772 am56511_775 am56512_778 am56513_781 hb h_r_737 g_am5651_745 h_fm0_piled_739 h_fm0_clock_740 h_fm0_groups_741 h_fm0_wrong_742 h_am5656_760 h_am5657_763 h_am5658_766 h_am5659_769 h_am56510_772 h_am56511_775 h_am56512_778 h_am56513_781
        refine ab_eqS hb h_r_737 ab_m1 (fun hb => ?_) (fun hb => ?_)
        · refine sz_setNode hb ?_ g_am5651_745 h_fm0_piled_739 h_fm0_clock_740 h_fm0_groups_741 h_fm0_wrong_742 h_am5656_760 h_am5657_763 h_am5658_766 h_am5659_769 h_am56510_772 h_am56511_775 h_am56512_778 h_am56513_781 ab_l12 ab_l0 ab_l0
          intro X_r_783 X_am5781_791 M_am5781_791 F_am5781_791 S_am5781_791 N_am5781_791 X_fm0_piled_785 X_fm0_clock_786 X_fm0_groups_787 X_fm0_wrong_788 X_am5786_806 X_am5787_809 X_am5788_812 X_am5789_815 X_am57810_818 X_am57811_821 X_am57812_824 X_am57813_827 r_783 fm0_op_784 fm0_piled_785 fm0_clock_786 fm0_groups_787 fm0_wrong_788 am5781_791 am5782_794 am5783_797 am5784_800 am5785_803 am5786_806 am5787_809 am5788_812 am5789_815 am57810_818 am57811_821 am57812_824 am57813_827 hb h_r_783 g_am5781_791 h_fm0_piled_785 h_fm0_clock_786 h_fm0_groups_787 h_fm0_wrong_788 h_am5786_806 h_am5787_809 h_am5788_812 h_am5789_815 h_am57810_818 h_am57811_821 h_am57812_824 h_am57813_827
          refine ab_eqS hb h_r_783 ab_m1 (fun hb => ?_) (fun hb => ?_)
          · refine sz_setNode hb ?_ g_am5781_791 h_fm0_piled_785 h_fm0_clock_786 h_fm0_groups_787 h_fm0_wrong_788 h_am5786_806 h_am5787_809 h_am5788_812 h_am5789_815 h_am57810_818 h_am57811_821 h_am57812_824 h_am57813_827 ab_l3 ab_l8 ab_l0
            intro X_r_829 X_am5911_837 M_am5911_837 F_am5911_837 S_am5911_837 N_am5911_837 X_fm0_piled_831 X_fm0_clock_832 X_fm0_groups_833 X_fm0_wrong_834 X_am5916_852 X_am5917_855 X_am5918_858 X_am5919_861 X_am59110_864 X_am59111_867 X_am59112_870 X_am59113_873 r_829 fm0_op_830 fm0_piled_831 fm0_clock_832 fm0_groups_833 fm0_wrong_834 am5911_837 am5912_840 am5913_843 am5914_846 am5915_849 am5916_852 am5917_855 am5918_858 am5919_861 am59110_864 am59111_867 am59112_870 am59113_873 hb h_r_829 g_am5911_837 h_fm0_piled_831 h_fm0_clock_832 h_fm0_groups_833 h_fm0_wrong_834 h_am5916_852 h_am5917_855 h_am5918_858 h_am5919_861 h_am59110_864 h_am59111_867 h_am59112_870 h_am59113_873
            refine ab_eqS hb h_r_829 ab_m1 (fun hb => ?_) (fun hb => ?_)
            · refine sz_setNode hb ?_ g_am5911_837 h_fm0_piled_831 h_fm0_clock_832 h_fm0_groups_833 h_fm0_wrong_834 h_am5916_852 h_am5917_855 h_am5918_858 h_am5919_861 h_am59110_864 h_am59111_867 h_am59112_870 h_am59113_873 ab_l3 ab_l1 h_x0
              intro X_r_875 X_am6031_883 M_am6031_883 F_am6031_883 S_am6031_883 N_am6031_883 X_fm0_piled_877 X_fm0_clock_878 X_fm0_groups_879 X_fm0_wrong_880 X_am6036_898 X_am6037_901 X_am6038_904 X_am6039_907 X_am60310_910 X_am60311_913 X_am60312_916 X_am60313_919 r_875 fm0_op_876 fm0_piled_877 fm0_clock_878 fm0_groups_879 fm0_wrong_880 am6031_883 am6032_886 am6033_889 am6034_892 am6035_895 am6036_898 am6037_901 am6038_904 am6039_907 am60310_910 am60311_913 am60312_916 am60313_919 hb h_r_875 g_am6031_883 h_fm0_piled_877 h_fm0_clock_878 h_fm0_groups_879 h_fm0_wrong_880 h_am6036_898 h_am6037_901 h_am6038_904 h_am6039_907 h_am60310_910 h_am60311_913 h_am60312_916 h_am60313_919
              refine ab_eqS hb h_r_875 ab_l3 (fun hb => ?_) (fun hb => ?_)
              · refine sz_rounds hb ?_ g_am6031_883 h_fm0_piled_877 h_fm0_clock_878 h_fm0_groups_879 h_fm0_wrong_880 h_am6036_898 h_am6037_901 h_am6038_904 h_am6039_907 h_am60310_910 h_am60311_913 h_am60312_916 h_am60313_919 h_x6
                intro X_r_921 X_am6141_929 M_am6141_929 F_am6141_929 S_am6141_929 N_am6141_929 X_fm0_piled_923 X_fm0_clock_924 X_fm0_groups_925 X_fm0_wrong_926 X_am6146_944 X_am6147_947 X_am6148_950 X_am6149_953 X_am61410_956 X_am61411_959 X_am61412_962 X_am61413_965 r_921 fm0_op_922 fm0_piled_923 fm0_clock_924 fm0_groups_925 fm0_wrong_926 am6141_929 am6142_932 am6143_935 am6144_938 am6145_941 am6146_944 am6147_947 am6148_950 am6149_953 am61410_956 am61411_959 am61412_962 am61413_965 hb h_r_921 g_am6141_929 h_fm0_piled_923 h_fm0_clock_924 h_fm0_groups_925 h_fm0_wrong_926 h_am6146_944 h_am6147_947 h_am6148_950 h_am6149_953 h_am61410_956 h_am61411_959 h_am61412_962 h_am61413_965
                refine ab_eqS hb h_x10 ab_l0 (fun hb => ?_) (fun hb => ?_)
                · exact hcut_wL_lawOf_628 hb h_x6 h_x7 h_x8 h_x10 ab_m1 h_r_921 h_fm0_piled_923 h_fm0_clock_924 h_fm0_groups_925 h_fm0_wrong_926 g_am6141_929 h_am6146_944 h_am6147_947 h_am6148_950 h_am6149_953 h_am61410_956 h_am61411_959 h_am61412_962 h_am61413_965
                · exact hcut_wL_lawOf_628 hb h_x6 h_x7 h_x8 h_x10 ab_l12 h_r_921 h_fm0_piled_923 h_fm0_clock_924 h_fm0_groups_925 h_fm0_wrong_926 g_am6141_929 h_am6146_944 h_am6147_947 h_am6148_950 h_am6149_953 h_am61410_956 h_am61411_959 h_am61412_962 h_am61413_965
              · exact hk hb ab_l0
            · exact hk hb ab_l0
          · exact hk hb ab_l0
        · exact hk hb ab_l0
      · exact hk hb ab_l0
    · refine sz_node hb ?_ g_am3811 h_fm0_piled h_fm0_clock h_fm0_groups h_fm0_wrong h_am3816 h_am3817 h_am3818 h_am3819 h_am38110 h_am38111 h_am38112 h_am38113 (ab_andS h_x11 ab_l7) h_x11
      intro X_r_1909 X_am5321_1917 M_am5321_1917 F_am5321_1917 S_am5321_1917 N_am5321_1917 X_fm0_piled_1911 X_fm0_clock_1912 X_fm0_groups_1913 X_fm0_wrong_1914 X_am5326_1932 X_am5327_1935 X_am5328_1938 X_am5329_1941 X_am53210_1944 X_am53211_1947 X_am53212_1950 X_am53213_1953 r_1909 fm0_op_1910 fm0_piled_1911 fm0_clock_1912 fm0_groups_1913 fm0_wrong_1914 am5321_1917 am5322_1920 am5323_1923 am5324_1926 am5325_1929 am5326_1932 am5327_1935 am5328_1938 am5329_1941 am53210_1944 am53211_1947 am53212_1950 am53213_1953 hb h_r_1909 g_am5321_1917 h_fm0_piled_1911 h_fm0_clock_1912 h_fm0_groups_1913 h_fm0_wrong_1914 h_am5326_1932 h_am5327_1935 h_am5328_1938 h_am5329_1941 h_am53210_1944 h_am53211_1947 h_am53212_1950 h_am53213_1953
      refine ab_eqS hb h_r_1909 h_x11 (fun hb => ?_) (fun hb => ?_)
      · refine ab_letS hb (ab_addS h_x11 ab_l1) ?_
        intro X_x11_1955 x11_1955 hb h_x11_1955
        exact ih hb h_x11_1955 h_fm0_piled_1911 h_fm0_clock_1912 h_fm0_groups_1913 h_fm0_wrong_1914 g_am5321_1917 h_am5326_1932 h_am5327_1935 h_am5328_1938 h_am5329_1941 h_am53210_1944 h_am53211_1947 h_am53212_1950 h_am53213_1953
      · exact hk hb ab_l0
noncomputable def bz_lawOf_477 (k : Nat → Bool) (cut_wL_lawOf_628 : Nat → Nat → Nat → Nat → Nat → Nat → Nat → Nat → Nat → Nat → Nat → Nat → Nat → Nat → Nat → Nat → Nat → Nat → Nat → Nat → Nat → Nat → Nat → Bool) (X_x0 X_x6 X_x7 X_x8 X_x9 X_x10 X_z0 X_z1 X_fm0_piled X_fm0_clock X_fm0_groups X_fm0_wrong X_am3811 M_am3811 F_am3811 S_am3811 N_am3811 X_am3816 X_am3817 X_am3818 X_am3819 X_am38110 X_am38111 X_am38112 X_am38113 : Nat) : Bool :=
  (ab_eq X_z1 X_z0 (ab_eq X_x9 16 (bz_node (fun X_r_1956 X_am4911_1964 M_am4911_1964 F_am4911_1964 S_am4911_1964 N_am4911_1964 X_fm0_piled_1958 X_fm0_clock_1959 X_fm0_groups_1960 X_fm0_wrong_1961 X_am4916_1979 X_am4917_1982 X_am4918_1985 X_am4919_1988 X_am49110_1991 X_am49111_1994 X_am49112_1997 X_am49113_2000 => (ab_eq X_r_1956 16 (bz_rounds (fun X_r_2002 X_am5001_2010 M_am5001_2010 F_am5001_2010 S_am5001_2010 N_am5001_2010 X_fm0_piled_2004 X_fm0_clock_2005 X_fm0_groups_2006 X_fm0_wrong_2007 X_am5006_2025 X_am5007_2028 X_am5008_2031 X_am5009_2034 X_am50010_2037 X_am50011_2040 X_am50012_2043 X_am50013_2046 => (ab_eq X_r_2002 17 (k 17) (k 16))) X_am4911_1964 M_am4911_1964 F_am4911_1964 S_am4911_1964 N_am4911_1964 X_fm0_piled_1958 X_fm0_clock_1959 X_fm0_groups_1960 X_fm0_wrong_1961 X_am4916_1979 X_am4917_1982 X_am4918_1985 X_am4919_1988 X_am49110_1991 X_am49111_1994 X_am49112_1997 X_am49113_2000 20) (k 16))) X_am3811 M_am3811 F_am3811 S_am3811 N_am3811 X_fm0_piled X_fm0_clock X_fm0_groups X_fm0_wrong X_am3816 X_am3817 X_am3818 X_am3819 X_am38110 X_am38111 X_am38112 X_am38113 16 21) (bz_lawOf_516 k cut_wL_lawOf_628 X_x0 X_x6 X_x7 X_x8 X_x10 200 17 X_fm0_piled X_fm0_clock X_fm0_groups X_fm0_wrong X_am3811 M_am3811 F_am3811 S_am3811 N_am3811 X_am3816 X_am3817 X_am3818 X_am3819 X_am38110 X_am38111 X_am38112 X_am38113)) (k 16))
theorem sz_lawOf_477 {e : Nat → Int32} {post : Int32 → St0 → Prop} {k : Nat → Bool} {mc ms kc ks : Nat} {cut_wL_lawOf_628 : Nat → Nat → Nat → Nat → Nat → Nat → Nat → Nat → Nat → Nat → Nat → Nat → Nat → Nat → Nat → Nat → Nat → Nat → Nat → Nat → Nat → Nat → Nat → Bool} {X_x0 X_x6 X_x7 X_x8 X_x9 X_x10 X_z0 X_z1 X_fm0_piled X_fm0_clock X_fm0_groups X_fm0_wrong X_am3811 M_am3811 F_am3811 S_am3811 N_am3811 X_am3816 X_am3817 X_am3818 X_am3819 X_am38110 X_am38111 X_am38112 X_am38113 : Nat} {x0 x6 x7 x8 x9 x10 z0 z1 fm0_op fm0_piled fm0_clock fm0_groups fm0_wrong : Int32} {am3811 am3812 am3813 am3814 am3815 am3816 am3817 am3818 am3819 am38110 am38111 am38112 am38113 : Nat → Int32} (hb : bz_lawOf_477 k cut_wL_lawOf_628 X_x0 X_x6 X_x7 X_x8 X_x9 X_x10 X_z0 X_z1 X_fm0_piled X_fm0_clock X_fm0_groups X_fm0_wrong X_am3811 M_am3811 F_am3811 S_am3811 N_am3811 X_am3816 X_am3817 X_am3818 X_am3819 X_am38110 X_am38111 X_am38112 X_am38113 = true) (hk : ∀ ⦃R : Nat⦄ ⦃r : Int32⦄, k R = true → ab_rv e R r → post r ()) (hcut_wL_lawOf_628 : ∀ ⦃X_x6 X_x7 X_x8 X_x10 X_z0 X_z1 X_fm0_piled X_fm0_clock X_fm0_groups X_fm0_wrong X_am6141 M_am6141 F_am6141 S_am6141 N_am6141 X_am6146 X_am6147 X_am6148 X_am6149 X_am61410 X_am61411 X_am61412 X_am61413 : Nat⦄ ⦃x6 x7 x8 x10 z0 z1 fm0_op fm0_piled fm0_clock fm0_groups fm0_wrong : Int32⦄ ⦃am6141 am6142 am6143 am6144 am6145 am6146 am6147 am6148 am6149 am61410 am61411 am61412 am61413 : Nat → Int32⦄, cut_wL_lawOf_628 X_x6 X_x7 X_x8 X_x10 X_z0 X_z1 X_fm0_piled X_fm0_clock X_fm0_groups X_fm0_wrong X_am6141 M_am6141 F_am6141 S_am6141 N_am6141 X_am6146 X_am6147 X_am6148 X_am6149 X_am61410 X_am61411 X_am61412 X_am61413 = true → ab_rv e X_x6 x6 → ab_rv e X_x7 x7 → ab_rv e X_x8 x8 → ab_rv e X_x10 x10 → ab_rv e X_z0 z0 → ab_rv e X_z1 z1 → ab_rv e X_fm0_piled fm0_piled → ab_rv e X_fm0_clock fm0_clock → ab_rv e X_fm0_groups fm0_groups → ab_rv e X_fm0_wrong fm0_wrong → ab_rg e X_am6141 M_am6141 F_am6141 S_am6141 N_am6141 fm0_op am6141 am6142 am6143 am6144 am6145 → ab_ra e 12 X_am6146 am6146 → ab_ra e 12 X_am6147 am6147 → ab_ra e 12 X_am6148 am6148 → ab_ra e 12 X_am6149 am6149 → ab_ra e 12 X_am61410 am61410 → ab_ra e 12 X_am61411 am61411 → ab_ra e 12 X_am61412 am61412 → ab_ra e 12 X_am61413 am61413 → wL_lawOf_628 post mc ms x6 x7 x8 x10 z0 z1 kc ks fm0_op fm0_piled fm0_clock fm0_groups fm0_wrong am6141 am6142 am6143 am6144 am6145 am6146 am6147 am6148 am6149 am61410 am61411 am61412 am61413) (h_x0 : ab_rv e X_x0 x0) (h_x6 : ab_rv e X_x6 x6) (h_x7 : ab_rv e X_x7 x7) (h_x8 : ab_rv e X_x8 x8) (h_x9 : ab_rv e X_x9 x9) (h_x10 : ab_rv e X_x10 x10) (h_z0 : ab_rv e X_z0 z0) (h_z1 : ab_rv e X_z1 z1) (h_fm0_piled : ab_rv e X_fm0_piled fm0_piled) (h_fm0_clock : ab_rv e X_fm0_clock fm0_clock) (h_fm0_groups : ab_rv e X_fm0_groups fm0_groups) (h_fm0_wrong : ab_rv e X_fm0_wrong fm0_wrong) (g_am3811 : ab_rg e X_am3811 M_am3811 F_am3811 S_am3811 N_am3811 fm0_op am3811 am3812 am3813 am3814 am3815) (h_am3816 : ab_ra e 12 X_am3816 am3816) (h_am3817 : ab_ra e 12 X_am3817 am3817) (h_am3818 : ab_ra e 12 X_am3818 am3818) (h_am3819 : ab_ra e 12 X_am3819 am3819) (h_am38110 : ab_ra e 12 X_am38110 am38110) (h_am38111 : ab_ra e 12 X_am38111 am38111) (h_am38112 : ab_ra e 12 X_am38112 am38112) (h_am38113 : ab_ra e 12 X_am38113 am38113) : wL_lawOf_477 post mc ms x0 x6 x7 x8 x9 x10 z0 z1 kc ks fm0_op fm0_piled fm0_clock fm0_groups fm0_wrong am3811 am3812 am3813 am3814 am3815 am3816 am3817 am3818 am3819 am38110 am38111 am38112 am38113 := by
  refine ab_eqS hb h_z1 h_z0 (fun hb => ?_) (fun hb => ?_)
  · refine ab_eqS hb h_x9 ab_l0 (fun hb => ?_) (fun hb => ?_)
    · refine sz_node hb ?_ g_am3811 h_fm0_piled h_fm0_clock h_fm0_groups h_fm0_wrong h_am3816 h_am3817 h_am3818 h_am3819 h_am38110 h_am38111 h_am38112 h_am38113 ab_l0 ab_l5
      intro X_r_1956 X_am4911_1964 M_am4911_1964 F_am4911_1964 S_am4911_1964 N_am4911_1964 X_fm0_piled_1958 X_fm0_clock_1959 X_fm0_groups_1960 X_fm0_wrong_1961 X_am4916_1979 X_am4917_1982 X_am4918_1985 X_am4919_1988 X_am49110_1991 X_am49111_1994 X_am49112_1997 X_am49113_2000 r_1956 fm0_op_1957 fm0_piled_1958 fm0_clock_1959 fm0_groups_1960 fm0_wrong_1961 am4911_1964 am4912_1967 am4913_1970 am4914_1973 am4915_1976 am4916_1979 am4917_1982 am4918_1985 am4919_1988 am49110_1991 am49111_1994 am49112_1997 am49113_2000 hb h_r_1956 g_am4911_1964 h_fm0_piled_1958 h_fm0_clock_1959 h_fm0_groups_1960 h_fm0_wrong_1961 h_am4916_1979 h_am4917_1982 h_am4918_1985 h_am4919_1988 h_am49110_1991 h_am49111_1994 h_am49112_1997 h_am49113_2000
      refine ab_eqS hb h_r_1956 ab_l0 (fun hb => ?_) (fun hb => ?_)
      · refine sz_rounds hb ?_ g_am4911_1964 h_fm0_piled_1958 h_fm0_clock_1959 h_fm0_groups_1960 h_fm0_wrong_1961 h_am4916_1979 h_am4917_1982 h_am4918_1985 h_am4919_1988 h_am49110_1991 h_am49111_1994 h_am49112_1997 h_am49113_2000 ab_l4
        intro X_r_2002 X_am5001_2010 M_am5001_2010 F_am5001_2010 S_am5001_2010 N_am5001_2010 X_fm0_piled_2004 X_fm0_clock_2005 X_fm0_groups_2006 X_fm0_wrong_2007 X_am5006_2025 X_am5007_2028 X_am5008_2031 X_am5009_2034 X_am50010_2037 X_am50011_2040 X_am50012_2043 X_am50013_2046 r_2002 fm0_op_2003 fm0_piled_2004 fm0_clock_2005 fm0_groups_2006 fm0_wrong_2007 am5001_2010 am5002_2013 am5003_2016 am5004_2019 am5005_2022 am5006_2025 am5007_2028 am5008_2031 am5009_2034 am50010_2037 am50011_2040 am50012_2043 am50013_2046 hb h_r_2002 g_am5001_2010 h_fm0_piled_2004 h_fm0_clock_2005 h_fm0_groups_2006 h_fm0_wrong_2007 h_am5006_2025 h_am5007_2028 h_am5008_2031 h_am5009_2034 h_am50010_2037 h_am50011_2040 h_am50012_2043 h_am50013_2046
        refine ab_eqS hb h_r_2002 ab_l1 (fun hb => ?_) (fun hb => ?_)
        · exact hk hb ab_l1
        · exact hk hb ab_l0
      · exact hk hb ab_l0
    · exact ⟨200, sz_lawOf_516 hk hcut_wL_lawOf_628 h_x0 h_x6 h_x7 h_x8 h_x10 200 hb ab_l1 h_fm0_piled h_fm0_clock h_fm0_groups h_fm0_wrong g_am3811 h_am3816 h_am3817 h_am3818 h_am3819 h_am38110 h_am38111 h_am38112 h_am38113⟩
  · exact hk hb ab_l0
noncomputable def bz_lawOf_454 (k : Nat → Bool) (cut_wL_lawOf_628 : Nat → Nat → Nat → Nat → Nat → Nat → Nat → Nat → Nat → Nat → Nat → Nat → Nat → Nat → Nat → Nat → Nat → Nat → Nat → Nat → Nat → Nat → Nat → Bool) (X_x0 X_x3 X_x5 X_x6 X_x7 X_x8 X_x9 X_x10 X_z0 X_z1 X_fm0_piled X_fm0_clock X_fm0_groups X_fm0_wrong X_am3811 M_am3811 F_am3811 S_am3811 N_am3811 X_am3816 X_am3817 X_am3818 X_am3819 X_am38110 X_am38111 X_am38112 X_am38113 : Nat) : Bool :=
  (ab_eq X_z1 X_z0 (bz_digest (fun X_r_686 => (ab_eq X_x9 16 (bz_lawOf_477 k cut_wL_lawOf_628 X_x0 X_x6 X_x7 X_x8 X_x9 X_x10 16 X_r_686 X_fm0_piled X_fm0_clock X_fm0_groups X_fm0_wrong X_am3811 M_am3811 F_am3811 S_am3811 N_am3811 X_am3816 X_am3817 X_am3818 X_am3819 X_am38110 X_am38111 X_am38112 X_am38113) (bz_lawOf_477 k cut_wL_lawOf_628 X_x0 X_x6 X_x7 X_x8 X_x9 X_x10 (ab_add X_x5 (ab_mul 19 X_x3)) X_r_686 X_fm0_piled X_fm0_clock X_fm0_groups X_fm0_wrong X_am3811 M_am3811 F_am3811 S_am3811 N_am3811 X_am3816 X_am3817 X_am3818 X_am3819 X_am38110 X_am38111 X_am38112 X_am38113))) X_am3811 M_am3811 F_am3811 S_am3811 N_am3811 X_fm0_piled X_fm0_clock X_fm0_groups X_fm0_wrong X_am3816 X_am3817 X_am3818 X_am3819 X_am38110 X_am38111 X_am38112 X_am38113) (k 16))
theorem sz_lawOf_454 {e : Nat → Int32} {post : Int32 → St0 → Prop} {k : Nat → Bool} {mc ms kc ks : Nat} {cut_wL_lawOf_628 : Nat → Nat → Nat → Nat → Nat → Nat → Nat → Nat → Nat → Nat → Nat → Nat → Nat → Nat → Nat → Nat → Nat → Nat → Nat → Nat → Nat → Nat → Nat → Bool} {X_x0 X_x3 X_x5 X_x6 X_x7 X_x8 X_x9 X_x10 X_z0 X_z1 X_fm0_piled X_fm0_clock X_fm0_groups X_fm0_wrong X_am3811 M_am3811 F_am3811 S_am3811 N_am3811 X_am3816 X_am3817 X_am3818 X_am3819 X_am38110 X_am38111 X_am38112 X_am38113 : Nat} {x0 x3 x5 x6 x7 x8 x9 x10 z0 z1 fm0_op fm0_piled fm0_clock fm0_groups fm0_wrong : Int32} {am3811 am3812 am3813 am3814 am3815 am3816 am3817 am3818 am3819 am38110 am38111 am38112 am38113 : Nat → Int32} (hb : bz_lawOf_454 k cut_wL_lawOf_628 X_x0 X_x3 X_x5 X_x6 X_x7 X_x8 X_x9 X_x10 X_z0 X_z1 X_fm0_piled X_fm0_clock X_fm0_groups X_fm0_wrong X_am3811 M_am3811 F_am3811 S_am3811 N_am3811 X_am3816 X_am3817 X_am3818 X_am3819 X_am38110 X_am38111 X_am38112 X_am38113 = true) (hk : ∀ ⦃R : Nat⦄ ⦃r : Int32⦄, k R = true → ab_rv e R r → post r ()) (hcut_wL_lawOf_628 : ∀ ⦃X_x6 X_x7 X_x8 X_x10 X_z0 X_z1 X_fm0_piled X_fm0_clock X_fm0_groups X_fm0_wrong X_am6141 M_am6141 F_am6141 S_am6141 N_am6141 X_am6146 X_am6147 X_am6148 X_am6149 X_am61410 X_am61411 X_am61412 X_am61413 : Nat⦄ ⦃x6 x7 x8 x10 z0 z1 fm0_op fm0_piled fm0_clock fm0_groups fm0_wrong : Int32⦄ ⦃am6141 am6142 am6143 am6144 am6145 am6146 am6147 am6148 am6149 am61410 am61411 am61412 am61413 : Nat → Int32⦄, cut_wL_lawOf_628 X_x6 X_x7 X_x8 X_x10 X_z0 X_z1 X_fm0_piled X_fm0_clock X_fm0_groups X_fm0_wrong X_am6141 M_am6141 F_am6141 S_am6141 N_am6141 X_am6146 X_am6147 X_am6148 X_am6149 X_am61410 X_am61411 X_am61412 X_am61413 = true → ab_rv e X_x6 x6 → ab_rv e X_x7 x7 → ab_rv e X_x8 x8 → ab_rv e X_x10 x10 → ab_rv e X_z0 z0 → ab_rv e X_z1 z1 → ab_rv e X_fm0_piled fm0_piled → ab_rv e X_fm0_clock fm0_clock → ab_rv e X_fm0_groups fm0_groups → ab_rv e X_fm0_wrong fm0_wrong → ab_rg e X_am6141 M_am6141 F_am6141 S_am6141 N_am6141 fm0_op am6141 am6142 am6143 am6144 am6145 → ab_ra e 12 X_am6146 am6146 → ab_ra e 12 X_am6147 am6147 → ab_ra e 12 X_am6148 am6148 → ab_ra e 12 X_am6149 am6149 → ab_ra e 12 X_am61410 am61410 → ab_ra e 12 X_am61411 am61411 → ab_ra e 12 X_am61412 am61412 → ab_ra e 12 X_am61413 am61413 → wL_lawOf_628 post mc ms x6 x7 x8 x10 z0 z1 kc ks fm0_op fm0_piled fm0_clock fm0_groups fm0_wrong am6141 am6142 am6143 am6144 am6145 am6146 am6147 am6148 am6149 am61410 am61411 am61412 am61413) (h_x0 : ab_rv e X_x0 x0) (h_x3 : ab_rv e X_x3 x3) (h_x5 : ab_rv e X_x5 x5) (h_x6 : ab_rv e X_x6 x6) (h_x7 : ab_rv e X_x7 x7) (h_x8 : ab_rv e X_x8 x8) (h_x9 : ab_rv e X_x9 x9) (h_x10 : ab_rv e X_x10 x10) (h_z0 : ab_rv e X_z0 z0) (h_z1 : ab_rv e X_z1 z1) (h_fm0_piled : ab_rv e X_fm0_piled fm0_piled) (h_fm0_clock : ab_rv e X_fm0_clock fm0_clock) (h_fm0_groups : ab_rv e X_fm0_groups fm0_groups) (h_fm0_wrong : ab_rv e X_fm0_wrong fm0_wrong) (g_am3811 : ab_rg e X_am3811 M_am3811 F_am3811 S_am3811 N_am3811 fm0_op am3811 am3812 am3813 am3814 am3815) (h_am3816 : ab_ra e 12 X_am3816 am3816) (h_am3817 : ab_ra e 12 X_am3817 am3817) (h_am3818 : ab_ra e 12 X_am3818 am3818) (h_am3819 : ab_ra e 12 X_am3819 am3819) (h_am38110 : ab_ra e 12 X_am38110 am38110) (h_am38111 : ab_ra e 12 X_am38111 am38111) (h_am38112 : ab_ra e 12 X_am38112 am38112) (h_am38113 : ab_ra e 12 X_am38113 am38113) : wL_lawOf_454 post mc ms x0 x3 x5 x6 x7 x8 x9 x10 z0 z1 kc ks fm0_op fm0_piled fm0_clock fm0_groups fm0_wrong am3811 am3812 am3813 am3814 am3815 am3816 am3817 am3818 am3819 am38110 am38111 am38112 am38113 := by
  refine ab_eqS hb h_z1 h_z0 (fun hb => ?_) (fun hb => ?_)
  · refine sz_digest hb ?_ g_am3811 h_fm0_piled h_fm0_clock h_fm0_groups h_fm0_wrong h_am3816 h_am3817 h_am3818 h_am3819 h_am38110 h_am38111 h_am38112 h_am38113
    intro X_r_686 r_686 hb h_r_686
    refine ab_eqS hb h_x9 ab_l0 (fun hb => ?_) (fun hb => ?_)
    · exact sz_lawOf_477 hb hk hcut_wL_lawOf_628 h_x0 h_x6 h_x7 h_x8 h_x9 h_x10 ab_l0 h_r_686 h_fm0_piled h_fm0_clock h_fm0_groups h_fm0_wrong g_am3811 h_am3816 h_am3817 h_am3818 h_am3819 h_am38110 h_am38111 h_am38112 h_am38113
    · exact sz_lawOf_477 hb hk hcut_wL_lawOf_628 h_x0 h_x6 h_x7 h_x8 h_x9 h_x10 (ab_addS h_x5 (ab_mulS ab_l3 h_x3)) h_r_686 h_fm0_piled h_fm0_clock h_fm0_groups h_fm0_wrong g_am3811 h_am3816 h_am3817 h_am3818 h_am3819 h_am38110 h_am38111 h_am38112 h_am38113
  · exact hk hb ab_l0
noncomputable def bz_lawOf_433 (k : Nat → Bool) (cut_wL_lawOf_628 : Nat → Nat → Nat → Nat → Nat → Nat → Nat → Nat → Nat → Nat → Nat → Nat → Nat → Nat → Nat → Nat → Nat → Nat → Nat → Nat → Nat → Nat → Nat → Bool) (X_x0 X_x3 X_x5 X_x6 X_x7 X_x8 X_x9 X_x10 X_z0 X_z1 X_fm0_piled X_fm0_clock X_fm0_groups X_fm0_wrong X_am3811 M_am3811 F_am3811 S_am3811 N_am3811 X_am3816 X_am3817 X_am3818 X_am3819 X_am38110 X_am38111 X_am38112 X_am38113 : Nat) : Bool :=
  (ab_eq X_z1 X_z0 (bz_find (fun X_r_683 => (ab_eq X_x9 16 (bz_lawOf_454 k cut_wL_lawOf_628 X_x0 X_x3 X_x5 X_x6 X_x7 X_x8 X_x9 X_x10 15 X_r_683 X_fm0_piled X_fm0_clock X_fm0_groups X_fm0_wrong X_am3811 M_am3811 F_am3811 S_am3811 N_am3811 X_am3816 X_am3817 X_am3818 X_am3819 X_am38110 X_am38111 X_am38112 X_am38113) (bz_lawOf_454 k cut_wL_lawOf_628 X_x0 X_x3 X_x5 X_x6 X_x7 X_x8 X_x9 X_x10 16 X_r_683 X_fm0_piled X_fm0_clock X_fm0_groups X_fm0_wrong X_am3811 M_am3811 F_am3811 S_am3811 N_am3811 X_am3816 X_am3817 X_am3818 X_am3819 X_am38110 X_am38111 X_am38112 X_am38113))) X_am3811 M_am3811 F_am3811 S_am3811 N_am3811 X_fm0_piled X_fm0_clock X_fm0_groups X_fm0_wrong X_am3816 X_am3817 X_am3818 X_am3819 X_am38110 X_am38111 X_am38112 X_am38113 X_x5 X_x3) (k 16))
theorem sz_lawOf_433 {e : Nat → Int32} {post : Int32 → St0 → Prop} {k : Nat → Bool} {mc ms kc ks : Nat} {cut_wL_lawOf_628 : Nat → Nat → Nat → Nat → Nat → Nat → Nat → Nat → Nat → Nat → Nat → Nat → Nat → Nat → Nat → Nat → Nat → Nat → Nat → Nat → Nat → Nat → Nat → Bool} {X_x0 X_x3 X_x5 X_x6 X_x7 X_x8 X_x9 X_x10 X_z0 X_z1 X_fm0_piled X_fm0_clock X_fm0_groups X_fm0_wrong X_am3811 M_am3811 F_am3811 S_am3811 N_am3811 X_am3816 X_am3817 X_am3818 X_am3819 X_am38110 X_am38111 X_am38112 X_am38113 : Nat} {x0 x3 x5 x6 x7 x8 x9 x10 z0 z1 fm0_op fm0_piled fm0_clock fm0_groups fm0_wrong : Int32} {am3811 am3812 am3813 am3814 am3815 am3816 am3817 am3818 am3819 am38110 am38111 am38112 am38113 : Nat → Int32} (hb : bz_lawOf_433 k cut_wL_lawOf_628 X_x0 X_x3 X_x5 X_x6 X_x7 X_x8 X_x9 X_x10 X_z0 X_z1 X_fm0_piled X_fm0_clock X_fm0_groups X_fm0_wrong X_am3811 M_am3811 F_am3811 S_am3811 N_am3811 X_am3816 X_am3817 X_am3818 X_am3819 X_am38110 X_am38111 X_am38112 X_am38113 = true) (hk : ∀ ⦃R : Nat⦄ ⦃r : Int32⦄, k R = true → ab_rv e R r → post r ()) (hcut_wL_lawOf_628 : ∀ ⦃X_x6 X_x7 X_x8 X_x10 X_z0 X_z1 X_fm0_piled X_fm0_clock X_fm0_groups X_fm0_wrong X_am6141 M_am6141 F_am6141 S_am6141 N_am6141 X_am6146 X_am6147 X_am6148 X_am6149 X_am61410 X_am61411 X_am61412 X_am61413 : Nat⦄ ⦃x6 x7 x8 x10 z0 z1 fm0_op fm0_piled fm0_clock fm0_groups fm0_wrong : Int32⦄ ⦃am6141 am6142 am6143 am6144 am6145 am6146 am6147 am6148 am6149 am61410 am61411 am61412 am61413 : Nat → Int32⦄, cut_wL_lawOf_628 X_x6 X_x7 X_x8 X_x10 X_z0 X_z1 X_fm0_piled X_fm0_clock X_fm0_groups X_fm0_wrong X_am6141 M_am6141 F_am6141 S_am6141 N_am6141 X_am6146 X_am6147 X_am6148 X_am6149 X_am61410 X_am61411 X_am61412 X_am61413 = true → ab_rv e X_x6 x6 → ab_rv e X_x7 x7 → ab_rv e X_x8 x8 → ab_rv e X_x10 x10 → ab_rv e X_z0 z0 → ab_rv e X_z1 z1 → ab_rv e X_fm0_piled fm0_piled → ab_rv e X_fm0_clock fm0_clock → ab_rv e X_fm0_groups fm0_groups → ab_rv e X_fm0_wrong fm0_wrong → ab_rg e X_am6141 M_am6141 F_am6141 S_am6141 N_am6141 fm0_op am6141 am6142 am6143 am6144 am6145 → ab_ra e 12 X_am6146 am6146 → ab_ra e 12 X_am6147 am6147 → ab_ra e 12 X_am6148 am6148 → ab_ra e 12 X_am6149 am6149 → ab_ra e 12 X_am61410 am61410 → ab_ra e 12 X_am61411 am61411 → ab_ra e 12 X_am61412 am61412 → ab_ra e 12 X_am61413 am61413 → wL_lawOf_628 post mc ms x6 x7 x8 x10 z0 z1 kc ks fm0_op fm0_piled fm0_clock fm0_groups fm0_wrong am6141 am6142 am6143 am6144 am6145 am6146 am6147 am6148 am6149 am61410 am61411 am61412 am61413) (h_x0 : ab_rv e X_x0 x0) (h_x3 : ab_rv e X_x3 x3) (h_x5 : ab_rv e X_x5 x5) (h_x6 : ab_rv e X_x6 x6) (h_x7 : ab_rv e X_x7 x7) (h_x8 : ab_rv e X_x8 x8) (h_x9 : ab_rv e X_x9 x9) (h_x10 : ab_rv e X_x10 x10) (h_z0 : ab_rv e X_z0 z0) (h_z1 : ab_rv e X_z1 z1) (h_fm0_piled : ab_rv e X_fm0_piled fm0_piled) (h_fm0_clock : ab_rv e X_fm0_clock fm0_clock) (h_fm0_groups : ab_rv e X_fm0_groups fm0_groups) (h_fm0_wrong : ab_rv e X_fm0_wrong fm0_wrong) (g_am3811 : ab_rg e X_am3811 M_am3811 F_am3811 S_am3811 N_am3811 fm0_op am3811 am3812 am3813 am3814 am3815) (h_am3816 : ab_ra e 12 X_am3816 am3816) (h_am3817 : ab_ra e 12 X_am3817 am3817) (h_am3818 : ab_ra e 12 X_am3818 am3818) (h_am3819 : ab_ra e 12 X_am3819 am3819) (h_am38110 : ab_ra e 12 X_am38110 am38110) (h_am38111 : ab_ra e 12 X_am38111 am38111) (h_am38112 : ab_ra e 12 X_am38112 am38112) (h_am38113 : ab_ra e 12 X_am38113 am38113) : wL_lawOf_433 post mc ms x0 x3 x5 x6 x7 x8 x9 x10 z0 z1 kc ks fm0_op fm0_piled fm0_clock fm0_groups fm0_wrong am3811 am3812 am3813 am3814 am3815 am3816 am3817 am3818 am3819 am38110 am38111 am38112 am38113 := by
  refine ab_eqS hb h_z1 h_z0 (fun hb => ?_) (fun hb => ?_)
  · refine sz_find hb ?_ g_am3811 h_fm0_piled h_fm0_clock h_fm0_groups h_fm0_wrong h_am3816 h_am3817 h_am3818 h_am3819 h_am38110 h_am38111 h_am38112 h_am38113 h_x5 h_x3
    intro X_r_683 r_683 hb h_r_683
    refine ab_eqS hb h_x9 ab_l0 (fun hb => ?_) (fun hb => ?_)
    · exact sz_lawOf_454 hb hk hcut_wL_lawOf_628 h_x0 h_x3 h_x5 h_x6 h_x7 h_x8 h_x9 h_x10 ab_m1 h_r_683 h_fm0_piled h_fm0_clock h_fm0_groups h_fm0_wrong g_am3811 h_am3816 h_am3817 h_am3818 h_am3819 h_am38110 h_am38111 h_am38112 h_am38113
    · exact sz_lawOf_454 hb hk hcut_wL_lawOf_628 h_x0 h_x3 h_x5 h_x6 h_x7 h_x8 h_x9 h_x10 ab_l0 h_r_683 h_fm0_piled h_fm0_clock h_fm0_groups h_fm0_wrong g_am3811 h_am3816 h_am3817 h_am3818 h_am3819 h_am38110 h_am38111 h_am38112 h_am38113
  · exact hk hb ab_l0
noncomputable def bz_lawOf_414 (k : Nat → Bool) (cut_wL_lawOf_628 : Nat → Nat → Nat → Nat → Nat → Nat → Nat → Nat → Nat → Nat → Nat → Nat → Nat → Nat → Nat → Nat → Nat → Nat → Nat → Nat → Nat → Nat → Nat → Bool) (X_x0 X_x3 X_x5 X_x6 X_x7 X_x8 X_x9 X_x10 X_z0 X_z1 X_fm0_piled X_fm0_clock X_fm0_groups X_fm0_wrong X_am3811 M_am3811 F_am3811 S_am3811 N_am3811 X_am3816 X_am3817 X_am3818 X_am3819 X_am38110 X_am38111 X_am38112 X_am38113 : Nat) : Bool :=
  (ab_eq X_z1 X_z0 (bz_value (fun X_r_680 => (ab_eq X_x9 16 (bz_lawOf_433 k cut_wL_lawOf_628 X_x0 X_x3 X_x5 X_x6 X_x7 X_x8 X_x9 X_x10 16 X_r_680 X_fm0_piled X_fm0_clock X_fm0_groups X_fm0_wrong X_am3811 M_am3811 F_am3811 S_am3811 N_am3811 X_am3816 X_am3817 X_am3818 X_am3819 X_am38110 X_am38111 X_am38112 X_am38113) (bz_lawOf_433 k cut_wL_lawOf_628 X_x0 X_x3 X_x5 X_x6 X_x7 X_x8 X_x9 X_x10 X_x3 X_r_680 X_fm0_piled X_fm0_clock X_fm0_groups X_fm0_wrong X_am3811 M_am3811 F_am3811 S_am3811 N_am3811 X_am3816 X_am3817 X_am3818 X_am3819 X_am38110 X_am38111 X_am38112 X_am38113))) X_am3811 M_am3811 F_am3811 S_am3811 N_am3811 X_fm0_piled X_fm0_clock X_fm0_groups X_fm0_wrong X_am3816 X_am3817 X_am3818 X_am3819 X_am38110 X_am38111 X_am38112 X_am38113 16) (k 16))
theorem sz_lawOf_414 {e : Nat → Int32} {post : Int32 → St0 → Prop} {k : Nat → Bool} {mc ms kc ks : Nat} {cut_wL_lawOf_628 : Nat → Nat → Nat → Nat → Nat → Nat → Nat → Nat → Nat → Nat → Nat → Nat → Nat → Nat → Nat → Nat → Nat → Nat → Nat → Nat → Nat → Nat → Nat → Bool} {X_x0 X_x3 X_x5 X_x6 X_x7 X_x8 X_x9 X_x10 X_z0 X_z1 X_fm0_piled X_fm0_clock X_fm0_groups X_fm0_wrong X_am3811 M_am3811 F_am3811 S_am3811 N_am3811 X_am3816 X_am3817 X_am3818 X_am3819 X_am38110 X_am38111 X_am38112 X_am38113 : Nat} {x0 x3 x5 x6 x7 x8 x9 x10 z0 z1 fm0_op fm0_piled fm0_clock fm0_groups fm0_wrong : Int32} {am3811 am3812 am3813 am3814 am3815 am3816 am3817 am3818 am3819 am38110 am38111 am38112 am38113 : Nat → Int32} (hb : bz_lawOf_414 k cut_wL_lawOf_628 X_x0 X_x3 X_x5 X_x6 X_x7 X_x8 X_x9 X_x10 X_z0 X_z1 X_fm0_piled X_fm0_clock X_fm0_groups X_fm0_wrong X_am3811 M_am3811 F_am3811 S_am3811 N_am3811 X_am3816 X_am3817 X_am3818 X_am3819 X_am38110 X_am38111 X_am38112 X_am38113 = true) (hk : ∀ ⦃R : Nat⦄ ⦃r : Int32⦄, k R = true → ab_rv e R r → post r ()) (hcut_wL_lawOf_628 : ∀ ⦃X_x6 X_x7 X_x8 X_x10 X_z0 X_z1 X_fm0_piled X_fm0_clock X_fm0_groups X_fm0_wrong X_am6141 M_am6141 F_am6141 S_am6141 N_am6141 X_am6146 X_am6147 X_am6148 X_am6149 X_am61410 X_am61411 X_am61412 X_am61413 : Nat⦄ ⦃x6 x7 x8 x10 z0 z1 fm0_op fm0_piled fm0_clock fm0_groups fm0_wrong : Int32⦄ ⦃am6141 am6142 am6143 am6144 am6145 am6146 am6147 am6148 am6149 am61410 am61411 am61412 am61413 : Nat → Int32⦄, cut_wL_lawOf_628 X_x6 X_x7 X_x8 X_x10 X_z0 X_z1 X_fm0_piled X_fm0_clock X_fm0_groups X_fm0_wrong X_am6141 M_am6141 F_am6141 S_am6141 N_am6141 X_am6146 X_am6147 X_am6148 X_am6149 X_am61410 X_am61411 X_am61412 X_am61413 = true → ab_rv e X_x6 x6 → ab_rv e X_x7 x7 → ab_rv e X_x8 x8 → ab_rv e X_x10 x10 → ab_rv e X_z0 z0 → ab_rv e X_z1 z1 → ab_rv e X_fm0_piled fm0_piled → ab_rv e X_fm0_clock fm0_clock → ab_rv e X_fm0_groups fm0_groups → ab_rv e X_fm0_wrong fm0_wrong → ab_rg e X_am6141 M_am6141 F_am6141 S_am6141 N_am6141 fm0_op am6141 am6142 am6143 am6144 am6145 → ab_ra e 12 X_am6146 am6146 → ab_ra e 12 X_am6147 am6147 → ab_ra e 12 X_am6148 am6148 → ab_ra e 12 X_am6149 am6149 → ab_ra e 12 X_am61410 am61410 → ab_ra e 12 X_am61411 am61411 → ab_ra e 12 X_am61412 am61412 → ab_ra e 12 X_am61413 am61413 → wL_lawOf_628 post mc ms x6 x7 x8 x10 z0 z1 kc ks fm0_op fm0_piled fm0_clock fm0_groups fm0_wrong am6141 am6142 am6143 am6144 am6145 am6146 am6147 am6148 am6149 am61410 am61411 am61412 am61413) (h_x0 : ab_rv e X_x0 x0) (h_x3 : ab_rv e X_x3 x3) (h_x5 : ab_rv e X_x5 x5) (h_x6 : ab_rv e X_x6 x6) (h_x7 : ab_rv e X_x7 x7) (h_x8 : ab_rv e X_x8 x8) (h_x9 : ab_rv e X_x9 x9) (h_x10 : ab_rv e X_x10 x10) (h_z0 : ab_rv e X_z0 z0) (h_z1 : ab_rv e X_z1 z1) (h_fm0_piled : ab_rv e X_fm0_piled fm0_piled) (h_fm0_clock : ab_rv e X_fm0_clock fm0_clock) (h_fm0_groups : ab_rv e X_fm0_groups fm0_groups) (h_fm0_wrong : ab_rv e X_fm0_wrong fm0_wrong) (g_am3811 : ab_rg e X_am3811 M_am3811 F_am3811 S_am3811 N_am3811 fm0_op am3811 am3812 am3813 am3814 am3815) (h_am3816 : ab_ra e 12 X_am3816 am3816) (h_am3817 : ab_ra e 12 X_am3817 am3817) (h_am3818 : ab_ra e 12 X_am3818 am3818) (h_am3819 : ab_ra e 12 X_am3819 am3819) (h_am38110 : ab_ra e 12 X_am38110 am38110) (h_am38111 : ab_ra e 12 X_am38111 am38111) (h_am38112 : ab_ra e 12 X_am38112 am38112) (h_am38113 : ab_ra e 12 X_am38113 am38113) : wL_lawOf_414 post mc ms x0 x3 x5 x6 x7 x8 x9 x10 z0 z1 kc ks fm0_op fm0_piled fm0_clock fm0_groups fm0_wrong am3811 am3812 am3813 am3814 am3815 am3816 am3817 am3818 am3819 am38110 am38111 am38112 am38113 := by
  refine ab_eqS hb h_z1 h_z0 (fun hb => ?_) (fun hb => ?_)
  · refine sz_value hb ?_ g_am3811 h_fm0_piled h_fm0_clock h_fm0_groups h_fm0_wrong h_am3816 h_am3817 h_am3818 h_am3819 h_am38110 h_am38111 h_am38112 h_am38113 ab_l0
    intro X_r_680 r_680 hb h_r_680
    refine ab_eqS hb h_x9 ab_l0 (fun hb => ?_) (fun hb => ?_)
    · exact sz_lawOf_433 hb hk hcut_wL_lawOf_628 h_x0 h_x3 h_x5 h_x6 h_x7 h_x8 h_x9 h_x10 ab_l0 h_r_680 h_fm0_piled h_fm0_clock h_fm0_groups h_fm0_wrong g_am3811 h_am3816 h_am3817 h_am3818 h_am3819 h_am38110 h_am38111 h_am38112 h_am38113
    · exact sz_lawOf_433 hb hk hcut_wL_lawOf_628 h_x0 h_x3 h_x5 h_x6 h_x7 h_x8 h_x9 h_x10 h_x3 h_r_680 h_fm0_piled h_fm0_clock h_fm0_groups h_fm0_wrong g_am3811 h_am3816 h_am3817 h_am3818 h_am3819 h_am38110 h_am38111 h_am38112 h_am38113
  · exact hk hb ab_l0
noncomputable def bz_lawOf_394 (k : Nat → Bool) (cut_wL_lawOf_628 : Nat → Nat → Nat → Nat → Nat → Nat → Nat → Nat → Nat → Nat → Nat → Nat → Nat → Nat → Nat → Nat → Nat → Nat → Nat → Nat → Nat → Nat → Nat → Bool) (X_x0 X_x3 X_x5 X_x6 X_x7 X_x8 X_x9 X_x10 X_z0 X_z1 X_fm0_piled X_fm0_clock X_fm0_groups X_fm0_wrong X_am3811 M_am3811 F_am3811 S_am3811 N_am3811 X_am3816 X_am3817 X_am3818 X_am3819 X_am38110 X_am38111 X_am38112 X_am38113 : Nat) : Bool :=
  (ab_eq X_z1 X_z0 (bz_labels (fun X_r_677 => (ab_eq X_x9 16 (bz_lawOf_414 k cut_wL_lawOf_628 X_x0 X_x3 X_x5 X_x6 X_x7 X_x8 X_x9 X_x10 15 X_r_677 X_fm0_piled X_fm0_clock X_fm0_groups X_fm0_wrong X_am3811 M_am3811 F_am3811 S_am3811 N_am3811 X_am3816 X_am3817 X_am3818 X_am3819 X_am38110 X_am38111 X_am38112 X_am38113) (bz_lawOf_414 k cut_wL_lawOf_628 X_x0 X_x3 X_x5 X_x6 X_x7 X_x8 X_x9 X_x10 X_x5 X_r_677 X_fm0_piled X_fm0_clock X_fm0_groups X_fm0_wrong X_am3811 M_am3811 F_am3811 S_am3811 N_am3811 X_am3816 X_am3817 X_am3818 X_am3819 X_am38110 X_am38111 X_am38112 X_am38113))) X_am3811 M_am3811 F_am3811 S_am3811 N_am3811 X_fm0_piled X_fm0_clock X_fm0_groups X_fm0_wrong X_am3816 X_am3817 X_am3818 X_am3819 X_am38110 X_am38111 X_am38112 X_am38113 16) (k 16))
theorem sz_lawOf_394 {e : Nat → Int32} {post : Int32 → St0 → Prop} {k : Nat → Bool} {mc ms kc ks : Nat} {cut_wL_lawOf_628 : Nat → Nat → Nat → Nat → Nat → Nat → Nat → Nat → Nat → Nat → Nat → Nat → Nat → Nat → Nat → Nat → Nat → Nat → Nat → Nat → Nat → Nat → Nat → Bool} {X_x0 X_x3 X_x5 X_x6 X_x7 X_x8 X_x9 X_x10 X_z0 X_z1 X_fm0_piled X_fm0_clock X_fm0_groups X_fm0_wrong X_am3811 M_am3811 F_am3811 S_am3811 N_am3811 X_am3816 X_am3817 X_am3818 X_am3819 X_am38110 X_am38111 X_am38112 X_am38113 : Nat} {x0 x3 x5 x6 x7 x8 x9 x10 z0 z1 fm0_op fm0_piled fm0_clock fm0_groups fm0_wrong : Int32} {am3811 am3812 am3813 am3814 am3815 am3816 am3817 am3818 am3819 am38110 am38111 am38112 am38113 : Nat → Int32} (hb : bz_lawOf_394 k cut_wL_lawOf_628 X_x0 X_x3 X_x5 X_x6 X_x7 X_x8 X_x9 X_x10 X_z0 X_z1 X_fm0_piled X_fm0_clock X_fm0_groups X_fm0_wrong X_am3811 M_am3811 F_am3811 S_am3811 N_am3811 X_am3816 X_am3817 X_am3818 X_am3819 X_am38110 X_am38111 X_am38112 X_am38113 = true) (hk : ∀ ⦃R : Nat⦄ ⦃r : Int32⦄, k R = true → ab_rv e R r → post r ()) (hcut_wL_lawOf_628 : ∀ ⦃X_x6 X_x7 X_x8 X_x10 X_z0 X_z1 X_fm0_piled X_fm0_clock X_fm0_groups X_fm0_wrong X_am6141 M_am6141 F_am6141 S_am6141 N_am6141 X_am6146 X_am6147 X_am6148 X_am6149 X_am61410 X_am61411 X_am61412 X_am61413 : Nat⦄ ⦃x6 x7 x8 x10 z0 z1 fm0_op fm0_piled fm0_clock fm0_groups fm0_wrong : Int32⦄ ⦃am6141 am6142 am6143 am6144 am6145 am6146 am6147 am6148 am6149 am61410 am61411 am61412 am61413 : Nat → Int32⦄, cut_wL_lawOf_628 X_x6 X_x7 X_x8 X_x10 X_z0 X_z1 X_fm0_piled X_fm0_clock X_fm0_groups X_fm0_wrong X_am6141 M_am6141 F_am6141 S_am6141 N_am6141 X_am6146 X_am6147 X_am6148 X_am6149 X_am61410 X_am61411 X_am61412 X_am61413 = true → ab_rv e X_x6 x6 → ab_rv e X_x7 x7 → ab_rv e X_x8 x8 → ab_rv e X_x10 x10 → ab_rv e X_z0 z0 → ab_rv e X_z1 z1 → ab_rv e X_fm0_piled fm0_piled → ab_rv e X_fm0_clock fm0_clock → ab_rv e X_fm0_groups fm0_groups → ab_rv e X_fm0_wrong fm0_wrong → ab_rg e X_am6141 M_am6141 F_am6141 S_am6141 N_am6141 fm0_op am6141 am6142 am6143 am6144 am6145 → ab_ra e 12 X_am6146 am6146 → ab_ra e 12 X_am6147 am6147 → ab_ra e 12 X_am6148 am6148 → ab_ra e 12 X_am6149 am6149 → ab_ra e 12 X_am61410 am61410 → ab_ra e 12 X_am61411 am61411 → ab_ra e 12 X_am61412 am61412 → ab_ra e 12 X_am61413 am61413 → wL_lawOf_628 post mc ms x6 x7 x8 x10 z0 z1 kc ks fm0_op fm0_piled fm0_clock fm0_groups fm0_wrong am6141 am6142 am6143 am6144 am6145 am6146 am6147 am6148 am6149 am61410 am61411 am61412 am61413) (h_x0 : ab_rv e X_x0 x0) (h_x3 : ab_rv e X_x3 x3) (h_x5 : ab_rv e X_x5 x5) (h_x6 : ab_rv e X_x6 x6) (h_x7 : ab_rv e X_x7 x7) (h_x8 : ab_rv e X_x8 x8) (h_x9 : ab_rv e X_x9 x9) (h_x10 : ab_rv e X_x10 x10) (h_z0 : ab_rv e X_z0 z0) (h_z1 : ab_rv e X_z1 z1) (h_fm0_piled : ab_rv e X_fm0_piled fm0_piled) (h_fm0_clock : ab_rv e X_fm0_clock fm0_clock) (h_fm0_groups : ab_rv e X_fm0_groups fm0_groups) (h_fm0_wrong : ab_rv e X_fm0_wrong fm0_wrong) (g_am3811 : ab_rg e X_am3811 M_am3811 F_am3811 S_am3811 N_am3811 fm0_op am3811 am3812 am3813 am3814 am3815) (h_am3816 : ab_ra e 12 X_am3816 am3816) (h_am3817 : ab_ra e 12 X_am3817 am3817) (h_am3818 : ab_ra e 12 X_am3818 am3818) (h_am3819 : ab_ra e 12 X_am3819 am3819) (h_am38110 : ab_ra e 12 X_am38110 am38110) (h_am38111 : ab_ra e 12 X_am38111 am38111) (h_am38112 : ab_ra e 12 X_am38112 am38112) (h_am38113 : ab_ra e 12 X_am38113 am38113) : wL_lawOf_394 post mc ms x0 x3 x5 x6 x7 x8 x9 x10 z0 z1 kc ks fm0_op fm0_piled fm0_clock fm0_groups fm0_wrong am3811 am3812 am3813 am3814 am3815 am3816 am3817 am3818 am3819 am38110 am38111 am38112 am38113 := by
  refine ab_eqS hb h_z1 h_z0 (fun hb => ?_) (fun hb => ?_)
  · refine sz_labels hb ?_ g_am3811 h_fm0_piled h_fm0_clock h_fm0_groups h_fm0_wrong h_am3816 h_am3817 h_am3818 h_am3819 h_am38110 h_am38111 h_am38112 h_am38113 ab_l0
    intro X_r_677 r_677 hb h_r_677
    refine ab_eqS hb h_x9 ab_l0 (fun hb => ?_) (fun hb => ?_)
    · exact sz_lawOf_414 hb hk hcut_wL_lawOf_628 h_x0 h_x3 h_x5 h_x6 h_x7 h_x8 h_x9 h_x10 ab_m1 h_r_677 h_fm0_piled h_fm0_clock h_fm0_groups h_fm0_wrong g_am3811 h_am3816 h_am3817 h_am3818 h_am3819 h_am38110 h_am38111 h_am38112 h_am38113
    · exact sz_lawOf_414 hb hk hcut_wL_lawOf_628 h_x0 h_x3 h_x5 h_x6 h_x7 h_x8 h_x9 h_x10 h_x5 h_r_677 h_fm0_piled h_fm0_clock h_fm0_groups h_fm0_wrong g_am3811 h_am3816 h_am3817 h_am3818 h_am3819 h_am38110 h_am38111 h_am38112 h_am38113
  · exact hk hb ab_l0
noncomputable def bz_lawOf_340 (k : Nat → Bool) (cut_wL_lawOf_628 : Nat → Nat → Nat → Nat → Nat → Nat → Nat → Nat → Nat → Nat → Nat → Nat → Nat → Nat → Nat → Nat → Nat → Nat → Nat → Nat → Nat → Nat → Nat → Bool) (X_x0 X_x3 X_x5 X_x6 X_x7 X_x8 X_x9 X_x10 X_z0 X_z1 X_fm0_piled X_fm0_clock X_fm0_groups X_fm0_wrong X_am3271 M_am3271 F_am3271 S_am3271 N_am3271 X_am3276 X_am3277 X_am3278 X_am3279 X_am32710 X_am32711 X_am32712 X_am32713 : Nat) : Bool :=
  (ab_eq X_z1 X_z0 (bz_faults (fun X_r_536 X_am3451_544 M_am3451_544 F_am3451_544 S_am3451_544 N_am3451_544 X_fm0_piled_538 X_fm0_clock_539 X_fm0_groups_540 X_fm0_wrong_541 X_am3456_559 X_am3457_562 X_am3458_565 X_am3459_568 X_am34510_571 X_am34511_574 X_am34512_577 X_am34513_580 => (ab_eq X_r_536 16 (bz_digest (fun X_r_582 => (ab_eq X_r_582 16 (bz_arrow (fun X_r_584 X_am3671_592 M_am3671_592 F_am3671_592 S_am3671_592 N_am3671_592 X_fm0_piled_586 X_fm0_clock_587 X_fm0_groups_588 X_fm0_wrong_589 X_am3676_607 X_am3677_610 X_am3678_613 X_am3679_616 X_am36710_619 X_am36711_622 X_am36712_625 X_am36713_628 => (ab_eq X_r_584 15 (bz_node (fun X_r_630 X_am3811_638 M_am3811_638 F_am3811_638 S_am3811_638 N_am3811_638 X_fm0_piled_632 X_fm0_clock_633 X_fm0_groups_634 X_fm0_wrong_635 X_am3816_653 X_am3817_656 X_am3818_659 X_am3819_662 X_am38110_665 X_am38111_668 X_am38112_671 X_am38113_674 => (ab_eq X_x9 16 (bz_lawOf_394 k cut_wL_lawOf_628 X_x0 X_x3 X_x5 X_x6 X_x7 X_x8 X_x9 X_x10 15 X_r_630 X_fm0_piled_632 X_fm0_clock_633 X_fm0_groups_634 X_fm0_wrong_635 X_am3811_638 M_am3811_638 F_am3811_638 S_am3811_638 N_am3811_638 X_am3816_653 X_am3817_656 X_am3818_659 X_am3819_662 X_am38110_665 X_am38111_668 X_am38112_671 X_am38113_674) (bz_lawOf_394 k cut_wL_lawOf_628 X_x0 X_x3 X_x5 X_x6 X_x7 X_x8 X_x9 X_x10 16 X_r_630 X_fm0_piled_632 X_fm0_clock_633 X_fm0_groups_634 X_fm0_wrong_635 X_am3811_638 M_am3811_638 F_am3811_638 S_am3811_638 N_am3811_638 X_am3816_653 X_am3817_656 X_am3818_659 X_am3819_662 X_am38110_665 X_am38111_668 X_am38112_671 X_am38113_674))) X_am3671_592 M_am3671_592 F_am3671_592 S_am3671_592 N_am3671_592 X_fm0_piled_586 X_fm0_clock_587 X_fm0_groups_588 X_fm0_wrong_589 X_am3676_607 X_am3677_610 X_am3678_613 X_am3679_616 X_am36710_619 X_am36711_622 X_am36712_625 X_am36713_628 X_x5 X_x3) (k 16))) X_am3451_544 M_am3451_544 F_am3451_544 S_am3451_544 N_am3451_544 X_fm0_piled_538 X_fm0_clock_539 X_fm0_groups_540 X_fm0_wrong_541 X_am3456_559 X_am3457_562 X_am3458_565 X_am3459_568 X_am34510_571 X_am34511_574 X_am34512_577 X_am34513_580 X_x7 X_x6 X_x8) (k 16))) X_am3451_544 M_am3451_544 F_am3451_544 S_am3451_544 N_am3451_544 X_fm0_piled_538 X_fm0_clock_539 X_fm0_groups_540 X_fm0_wrong_541 X_am3456_559 X_am3457_562 X_am3458_565 X_am3459_568 X_am34510_571 X_am34511_574 X_am34512_577 X_am34513_580) (k 16))) X_am3271 M_am3271 F_am3271 S_am3271 N_am3271 X_fm0_piled X_fm0_clock X_fm0_groups X_fm0_wrong X_am3276 X_am3277 X_am3278 X_am3279 X_am32710 X_am32711 X_am32712 X_am32713) (k 16))
theorem sz_lawOf_340 {e : Nat → Int32} {post : Int32 → St0 → Prop} {k : Nat → Bool} {mc ms kc ks : Nat} {cut_wL_lawOf_628 : Nat → Nat → Nat → Nat → Nat → Nat → Nat → Nat → Nat → Nat → Nat → Nat → Nat → Nat → Nat → Nat → Nat → Nat → Nat → Nat → Nat → Nat → Nat → Bool} {X_x0 X_x3 X_x5 X_x6 X_x7 X_x8 X_x9 X_x10 X_z0 X_z1 X_fm0_piled X_fm0_clock X_fm0_groups X_fm0_wrong X_am3271 M_am3271 F_am3271 S_am3271 N_am3271 X_am3276 X_am3277 X_am3278 X_am3279 X_am32710 X_am32711 X_am32712 X_am32713 : Nat} {x0 x3 x5 x6 x7 x8 x9 x10 z0 z1 fm0_op fm0_piled fm0_clock fm0_groups fm0_wrong : Int32} {am3271 am3272 am3273 am3274 am3275 am3276 am3277 am3278 am3279 am32710 am32711 am32712 am32713 : Nat → Int32} (hb : bz_lawOf_340 k cut_wL_lawOf_628 X_x0 X_x3 X_x5 X_x6 X_x7 X_x8 X_x9 X_x10 X_z0 X_z1 X_fm0_piled X_fm0_clock X_fm0_groups X_fm0_wrong X_am3271 M_am3271 F_am3271 S_am3271 N_am3271 X_am3276 X_am3277 X_am3278 X_am3279 X_am32710 X_am32711 X_am32712 X_am32713 = true) (hk : ∀ ⦃R : Nat⦄ ⦃r : Int32⦄, k R = true → ab_rv e R r → post r ()) (hcut_wL_lawOf_628 : ∀ ⦃X_x6 X_x7 X_x8 X_x10 X_z0 X_z1 X_fm0_piled X_fm0_clock X_fm0_groups X_fm0_wrong X_am6141 M_am6141 F_am6141 S_am6141 N_am6141 X_am6146 X_am6147 X_am6148 X_am6149 X_am61410 X_am61411 X_am61412 X_am61413 : Nat⦄ ⦃x6 x7 x8 x10 z0 z1 fm0_op fm0_piled fm0_clock fm0_groups fm0_wrong : Int32⦄ ⦃am6141 am6142 am6143 am6144 am6145 am6146 am6147 am6148 am6149 am61410 am61411 am61412 am61413 : Nat → Int32⦄, cut_wL_lawOf_628 X_x6 X_x7 X_x8 X_x10 X_z0 X_z1 X_fm0_piled X_fm0_clock X_fm0_groups X_fm0_wrong X_am6141 M_am6141 F_am6141 S_am6141 N_am6141 X_am6146 X_am6147 X_am6148 X_am6149 X_am61410 X_am61411 X_am61412 X_am61413 = true → ab_rv e X_x6 x6 → ab_rv e X_x7 x7 → ab_rv e X_x8 x8 → ab_rv e X_x10 x10 → ab_rv e X_z0 z0 → ab_rv e X_z1 z1 → ab_rv e X_fm0_piled fm0_piled → ab_rv e X_fm0_clock fm0_clock → ab_rv e X_fm0_groups fm0_groups → ab_rv e X_fm0_wrong fm0_wrong → ab_rg e X_am6141 M_am6141 F_am6141 S_am6141 N_am6141 fm0_op am6141 am6142 am6143 am6144 am6145 → ab_ra e 12 X_am6146 am6146 → ab_ra e 12 X_am6147 am6147 → ab_ra e 12 X_am6148 am6148 → ab_ra e 12 X_am6149 am6149 → ab_ra e 12 X_am61410 am61410 → ab_ra e 12 X_am61411 am61411 → ab_ra e 12 X_am61412 am61412 → ab_ra e 12 X_am61413 am61413 → wL_lawOf_628 post mc ms x6 x7 x8 x10 z0 z1 kc ks fm0_op fm0_piled fm0_clock fm0_groups fm0_wrong am6141 am6142 am6143 am6144 am6145 am6146 am6147 am6148 am6149 am61410 am61411 am61412 am61413) (h_x0 : ab_rv e X_x0 x0) (h_x3 : ab_rv e X_x3 x3) (h_x5 : ab_rv e X_x5 x5) (h_x6 : ab_rv e X_x6 x6) (h_x7 : ab_rv e X_x7 x7) (h_x8 : ab_rv e X_x8 x8) (h_x9 : ab_rv e X_x9 x9) (h_x10 : ab_rv e X_x10 x10) (h_z0 : ab_rv e X_z0 z0) (h_z1 : ab_rv e X_z1 z1) (h_fm0_piled : ab_rv e X_fm0_piled fm0_piled) (h_fm0_clock : ab_rv e X_fm0_clock fm0_clock) (h_fm0_groups : ab_rv e X_fm0_groups fm0_groups) (h_fm0_wrong : ab_rv e X_fm0_wrong fm0_wrong) (g_am3271 : ab_rg e X_am3271 M_am3271 F_am3271 S_am3271 N_am3271 fm0_op am3271 am3272 am3273 am3274 am3275) (h_am3276 : ab_ra e 12 X_am3276 am3276) (h_am3277 : ab_ra e 12 X_am3277 am3277) (h_am3278 : ab_ra e 12 X_am3278 am3278) (h_am3279 : ab_ra e 12 X_am3279 am3279) (h_am32710 : ab_ra e 12 X_am32710 am32710) (h_am32711 : ab_ra e 12 X_am32711 am32711) (h_am32712 : ab_ra e 12 X_am32712 am32712) (h_am32713 : ab_ra e 12 X_am32713 am32713) : wL_lawOf_340 post mc ms x0 x3 x5 x6 x7 x8 x9 x10 z0 z1 kc ks fm0_op fm0_piled fm0_clock fm0_groups fm0_wrong am3271 am3272 am3273 am3274 am3275 am3276 am3277 am3278 am3279 am32710 am32711 am32712 am32713 := by
  refine ab_eqS hb h_z1 h_z0 (fun hb => ?_) (fun hb => ?_)
  · refine sz_faults hb ?_ g_am3271 h_fm0_piled h_fm0_clock h_fm0_groups h_fm0_wrong h_am3276 h_am3277 h_am3278 h_am3279 h_am32710 h_am32711 h_am32712 h_am32713
    intro X_r_536 X_am3451_544 M_am3451_544 F_am3451_544 S_am3451_544 N_am3451_544 X_fm0_piled_538 X_fm0_clock_539 X_fm0_groups_540 X_fm0_wrong_541 X_am3456_559 X_am3457_562 X_am3458_565 X_am3459_568 X_am34510_571 X_am34511_574 X_am34512_577 X_am34513_580 r_536 fm0_op_537 fm0_piled_538 fm0_clock_539 fm0_groups_540 fm0_wrong_541 am3451_544 am3452_547 am3453_550 am3454_553 am3455_556 am3456_559 am3457_562 am3458_565 am3459_568 am34510_571 am34511_574 am34512_577 am34513_580 hb h_r_536 g_am3451_544 h_fm0_piled_538 h_fm0_clock_539 h_fm0_groups_540 h_fm0_wrong_541 h_am3456_559 h_am3457_562 h_am3458_565 h_am3459_568 h_am34510_571 h_am34511_574 h_am34512_577 h_am34513_580
    refine ab_eqS hb h_r_536 ab_l0 (fun hb => ?_) (fun hb => ?_)
    · refine sz_digest hb ?_ g_am3451_544 h_fm0_piled_538 h_fm0_clock_539 h_fm0_groups_540 h_fm0_wrong_541 h_am3456_559 h_am3457_562 h_am3458_565 h_am3459_568 h_am34510_571 h_am34511_574 h_am34512_577 h_am34513_580
      intro X_r_582 r_582 hb h_r_582
      refine ab_eqS hb h_r_582 ab_l0 (fun hb => ?_) (fun hb => ?_)
      · refine sz_arrow hb ?_ g_am3451_544 h_fm0_piled_538 h_fm0_clock_539 h_fm0_groups_540 h_fm0_wrong_541 h_am3456_559 h_am3457_562 h_am3458_565 h_am3459_568 h_am34510_571 h_am34511_574 h_am34512_577 h_am34513_580 h_x7 h_x6 h_x8
        intro X_r_584 X_am3671_592 M_am3671_592 F_am3671_592 S_am3671_592 N_am3671_592 X_fm0_piled_586 X_fm0_clock_587 X_fm0_groups_588 X_fm0_wrong_589 X_am3676_607 X_am3677_610 X_am3678_613 X_am3679_616 X_am36710_619 X_am36711_622 X_am36712_625 X_am36713_628 r_584 fm0_op_585 fm0_piled_586 fm0_clock_587 fm0_groups_588 fm0_wrong_589 am3671_592 am3672_595 am3673_598 am3674_601 am3675_604 am3676_607 am3677_610 am3678_613 am3679_616 am36710_619 am36711_622 am36712_625 am36713_628 hb h_r_584 g_am3671_592 h_fm0_piled_586 h_fm0_clock_587 h_fm0_groups_588 h_fm0_wrong_589 h_am3676_607 h_am3677_610 h_am3678_613 h_am3679_616 h_am36710_619 h_am36711_622 h_am36712_625 h_am36713_628
        refine ab_eqS hb h_r_584 ab_m1 (fun hb => ?_) (fun hb => ?_)
        · refine sz_node hb ?_ g_am3671_592 h_fm0_piled_586 h_fm0_clock_587 h_fm0_groups_588 h_fm0_wrong_589 h_am3676_607 h_am3677_610 h_am3678_613 h_am3679_616 h_am36710_619 h_am36711_622 h_am36712_625 h_am36713_628 h_x5 h_x3
          intro X_r_630 X_am3811_638 M_am3811_638 F_am3811_638 S_am3811_638 N_am3811_638 X_fm0_piled_632 X_fm0_clock_633 X_fm0_groups_634 X_fm0_wrong_635 X_am3816_653 X_am3817_656 X_am3818_659 X_am3819_662 X_am38110_665 X_am38111_668 X_am38112_671 X_am38113_674 r_630 fm0_op_631 fm0_piled_632 fm0_clock_633 fm0_groups_634 fm0_wrong_635 am3811_638 am3812_641 am3813_644 am3814_647 am3815_650 am3816_653 am3817_656 am3818_659 am3819_662 am38110_665 am38111_668 am38112_671 am38113_674 hb h_r_630 g_am3811_638 h_fm0_piled_632 h_fm0_clock_633 h_fm0_groups_634 h_fm0_wrong_635 h_am3816_653 h_am3817_656 h_am3818_659 h_am3819_662 h_am38110_665 h_am38111_668 h_am38112_671 h_am38113_674
          refine ab_eqS hb h_x9 ab_l0 (fun hb => ?_) (fun hb => ?_)
          · exact sz_lawOf_394 hb hk hcut_wL_lawOf_628 h_x0 h_x3 h_x5 h_x6 h_x7 h_x8 h_x9 h_x10 ab_m1 h_r_630 h_fm0_piled_632 h_fm0_clock_633 h_fm0_groups_634 h_fm0_wrong_635 g_am3811_638 h_am3816_653 h_am3817_656 h_am3818_659 h_am3819_662 h_am38110_665 h_am38111_668 h_am38112_671 h_am38113_674
          · exact sz_lawOf_394 hb hk hcut_wL_lawOf_628 h_x0 h_x3 h_x5 h_x6 h_x7 h_x8 h_x9 h_x10 ab_l0 h_r_630 h_fm0_piled_632 h_fm0_clock_633 h_fm0_groups_634 h_fm0_wrong_635 g_am3811_638 h_am3816_653 h_am3817_656 h_am3818_659 h_am3819_662 h_am38110_665 h_am38111_668 h_am38112_671 h_am38113_674
        · exact hk hb ab_l0
      · exact hk hb ab_l0
    · exact hk hb ab_l0
  · exact hk hb ab_l0
noncomputable def bz_lawOf_294 (k : Nat → Bool) (cut_wL_lawOf_628 : Nat → Nat → Nat → Nat → Nat → Nat → Nat → Nat → Nat → Nat → Nat → Nat → Nat → Nat → Nat → Nat → Nat → Nat → Nat → Nat → Nat → Nat → Nat → Bool) (X_x0 X_x3 X_x5 X_x6 X_x7 X_x8 X_x9 X_x10 X_z0 X_z1 X_fm0_piled X_fm0_clock X_fm0_groups X_fm0_wrong X_am1851 M_am1851 F_am1851 S_am1851 N_am1851 X_am1856 X_am1857 X_am1858 X_am1859 X_am18510 X_am18511 X_am18512 X_am18513 : Nat) : Bool :=
  (ab_eq X_z1 X_z0 (bz_distance (fun X_r_397 X_am3031_405 M_am3031_405 F_am3031_405 S_am3031_405 N_am3031_405 X_fm0_piled_399 X_fm0_clock_400 X_fm0_groups_401 X_fm0_wrong_402 X_am3036_420 X_am3037_423 X_am3038_426 X_am3039_429 X_am30310_432 X_am30311_435 X_am30312_438 X_am30313_441 => (ab_eq X_r_397 15 (bz_cheapest (fun X_r_443 X_am3161_451 M_am3161_451 F_am3161_451 S_am3161_451 N_am3161_451 X_fm0_piled_445 X_fm0_clock_446 X_fm0_groups_447 X_fm0_wrong_448 X_am3166_466 X_am3167_469 X_am3168_472 X_am3169_475 X_am31610_478 X_am31611_481 X_am31612_484 X_am31613_487 => (ab_eq X_r_443 15 (bz_rounds (fun X_r_489 X_am3271_497 M_am3271_497 F_am3271_497 S_am3271_497 N_am3271_497 X_fm0_piled_491 X_fm0_clock_492 X_fm0_groups_493 X_fm0_wrong_494 X_am3276_512 X_am3277_515 X_am3278_518 X_am3279_521 X_am32710_524 X_am32711_527 X_am32712_530 X_am32713_533 => (ab_eq X_x10 16 (bz_lawOf_340 k cut_wL_lawOf_628 X_x0 X_x3 X_x5 X_x6 X_x7 X_x8 X_x9 X_x10 15 X_r_489 X_fm0_piled_491 X_fm0_clock_492 X_fm0_groups_493 X_fm0_wrong_494 X_am3271_497 M_am3271_497 F_am3271_497 S_am3271_497 N_am3271_497 X_am3276_512 X_am3277_515 X_am3278_518 X_am3279_521 X_am32710_524 X_am32711_527 X_am32712_530 X_am32713_533) (bz_lawOf_340 k cut_wL_lawOf_628 X_x0 X_x3 X_x5 X_x6 X_x7 X_x8 X_x9 X_x10 16 X_r_489 X_fm0_piled_491 X_fm0_clock_492 X_fm0_groups_493 X_fm0_wrong_494 X_am3271_497 M_am3271_497 F_am3271_497 S_am3271_497 N_am3271_497 X_am3276_512 X_am3277_515 X_am3278_518 X_am3279_521 X_am32710_524 X_am32711_527 X_am32712_530 X_am32713_533))) X_am3161_451 M_am3161_451 F_am3161_451 S_am3161_451 N_am3161_451 X_fm0_piled_445 X_fm0_clock_446 X_fm0_groups_447 X_fm0_wrong_448 X_am3166_466 X_am3167_469 X_am3168_472 X_am3169_475 X_am31610_478 X_am31611_481 X_am31612_484 X_am31613_487 X_x6) (k 16))) X_am3031_405 M_am3031_405 F_am3031_405 S_am3031_405 N_am3031_405 X_fm0_piled_399 X_fm0_clock_400 X_fm0_groups_401 X_fm0_wrong_402 X_am3036_420 X_am3037_423 X_am3038_426 X_am3039_429 X_am30310_432 X_am30311_435 X_am30312_438 X_am30313_441 X_x7 X_x6) (k 16))) X_am1851 M_am1851 F_am1851 S_am1851 N_am1851 X_fm0_piled X_fm0_clock X_fm0_groups X_fm0_wrong X_am1856 X_am1857 X_am1858 X_am1859 X_am18510 X_am18511 X_am18512 X_am18513 X_x7 X_x6) (k 16))
theorem sz_lawOf_294 {e : Nat → Int32} {post : Int32 → St0 → Prop} {k : Nat → Bool} {mc ms kc ks : Nat} {cut_wL_lawOf_628 : Nat → Nat → Nat → Nat → Nat → Nat → Nat → Nat → Nat → Nat → Nat → Nat → Nat → Nat → Nat → Nat → Nat → Nat → Nat → Nat → Nat → Nat → Nat → Bool} {X_x0 X_x3 X_x5 X_x6 X_x7 X_x8 X_x9 X_x10 X_z0 X_z1 X_fm0_piled X_fm0_clock X_fm0_groups X_fm0_wrong X_am1851 M_am1851 F_am1851 S_am1851 N_am1851 X_am1856 X_am1857 X_am1858 X_am1859 X_am18510 X_am18511 X_am18512 X_am18513 : Nat} {x0 x3 x5 x6 x7 x8 x9 x10 z0 z1 fm0_op fm0_piled fm0_clock fm0_groups fm0_wrong : Int32} {am1851 am1852 am1853 am1854 am1855 am1856 am1857 am1858 am1859 am18510 am18511 am18512 am18513 : Nat → Int32} (hb : bz_lawOf_294 k cut_wL_lawOf_628 X_x0 X_x3 X_x5 X_x6 X_x7 X_x8 X_x9 X_x10 X_z0 X_z1 X_fm0_piled X_fm0_clock X_fm0_groups X_fm0_wrong X_am1851 M_am1851 F_am1851 S_am1851 N_am1851 X_am1856 X_am1857 X_am1858 X_am1859 X_am18510 X_am18511 X_am18512 X_am18513 = true) (hk : ∀ ⦃R : Nat⦄ ⦃r : Int32⦄, k R = true → ab_rv e R r → post r ()) (hcut_wL_lawOf_628 : ∀ ⦃X_x6 X_x7 X_x8 X_x10 X_z0 X_z1 X_fm0_piled X_fm0_clock X_fm0_groups X_fm0_wrong X_am6141 M_am6141 F_am6141 S_am6141 N_am6141 X_am6146 X_am6147 X_am6148 X_am6149 X_am61410 X_am61411 X_am61412 X_am61413 : Nat⦄ ⦃x6 x7 x8 x10 z0 z1 fm0_op fm0_piled fm0_clock fm0_groups fm0_wrong : Int32⦄ ⦃am6141 am6142 am6143 am6144 am6145 am6146 am6147 am6148 am6149 am61410 am61411 am61412 am61413 : Nat → Int32⦄, cut_wL_lawOf_628 X_x6 X_x7 X_x8 X_x10 X_z0 X_z1 X_fm0_piled X_fm0_clock X_fm0_groups X_fm0_wrong X_am6141 M_am6141 F_am6141 S_am6141 N_am6141 X_am6146 X_am6147 X_am6148 X_am6149 X_am61410 X_am61411 X_am61412 X_am61413 = true → ab_rv e X_x6 x6 → ab_rv e X_x7 x7 → ab_rv e X_x8 x8 → ab_rv e X_x10 x10 → ab_rv e X_z0 z0 → ab_rv e X_z1 z1 → ab_rv e X_fm0_piled fm0_piled → ab_rv e X_fm0_clock fm0_clock → ab_rv e X_fm0_groups fm0_groups → ab_rv e X_fm0_wrong fm0_wrong → ab_rg e X_am6141 M_am6141 F_am6141 S_am6141 N_am6141 fm0_op am6141 am6142 am6143 am6144 am6145 → ab_ra e 12 X_am6146 am6146 → ab_ra e 12 X_am6147 am6147 → ab_ra e 12 X_am6148 am6148 → ab_ra e 12 X_am6149 am6149 → ab_ra e 12 X_am61410 am61410 → ab_ra e 12 X_am61411 am61411 → ab_ra e 12 X_am61412 am61412 → ab_ra e 12 X_am61413 am61413 → wL_lawOf_628 post mc ms x6 x7 x8 x10 z0 z1 kc ks fm0_op fm0_piled fm0_clock fm0_groups fm0_wrong am6141 am6142 am6143 am6144 am6145 am6146 am6147 am6148 am6149 am61410 am61411 am61412 am61413) (h_x0 : ab_rv e X_x0 x0) (h_x3 : ab_rv e X_x3 x3) (h_x5 : ab_rv e X_x5 x5) (h_x6 : ab_rv e X_x6 x6) (h_x7 : ab_rv e X_x7 x7) (h_x8 : ab_rv e X_x8 x8) (h_x9 : ab_rv e X_x9 x9) (h_x10 : ab_rv e X_x10 x10) (h_z0 : ab_rv e X_z0 z0) (h_z1 : ab_rv e X_z1 z1) (h_fm0_piled : ab_rv e X_fm0_piled fm0_piled) (h_fm0_clock : ab_rv e X_fm0_clock fm0_clock) (h_fm0_groups : ab_rv e X_fm0_groups fm0_groups) (h_fm0_wrong : ab_rv e X_fm0_wrong fm0_wrong) (g_am1851 : ab_rg e X_am1851 M_am1851 F_am1851 S_am1851 N_am1851 fm0_op am1851 am1852 am1853 am1854 am1855) (h_am1856 : ab_ra e 12 X_am1856 am1856) (h_am1857 : ab_ra e 12 X_am1857 am1857) (h_am1858 : ab_ra e 12 X_am1858 am1858) (h_am1859 : ab_ra e 12 X_am1859 am1859) (h_am18510 : ab_ra e 12 X_am18510 am18510) (h_am18511 : ab_ra e 12 X_am18511 am18511) (h_am18512 : ab_ra e 12 X_am18512 am18512) (h_am18513 : ab_ra e 12 X_am18513 am18513) : wL_lawOf_294 post mc ms x0 x3 x5 x6 x7 x8 x9 x10 z0 z1 kc ks fm0_op fm0_piled fm0_clock fm0_groups fm0_wrong am1851 am1852 am1853 am1854 am1855 am1856 am1857 am1858 am1859 am18510 am18511 am18512 am18513 := by
  refine ab_eqS hb h_z1 h_z0 (fun hb => ?_) (fun hb => ?_)
  · refine sz_distance hb ?_ g_am1851 h_fm0_piled h_fm0_clock h_fm0_groups h_fm0_wrong h_am1856 h_am1857 h_am1858 h_am1859 h_am18510 h_am18511 h_am18512 h_am18513 h_x7 h_x6
    intro X_r_397 X_am3031_405 M_am3031_405 F_am3031_405 S_am3031_405 N_am3031_405 X_fm0_piled_399 X_fm0_clock_400 X_fm0_groups_401 X_fm0_wrong_402 X_am3036_420 X_am3037_423 X_am3038_426 X_am3039_429 X_am30310_432 X_am30311_435 X_am30312_438 X_am30313_441 r_397 fm0_op_398 fm0_piled_399 fm0_clock_400 fm0_groups_401 fm0_wrong_402 am3031_405 am3032_408 am3033_411 am3034_414 am3035_417 am3036_420 am3037_423 am3038_426 am3039_429 am30310_432 am30311_435 am30312_438 am30313_441 hb h_r_397 g_am3031_405 h_fm0_piled_399 h_fm0_clock_400 h_fm0_groups_401 h_fm0_wrong_402 h_am3036_420 h_am3037_423 h_am3038_426 h_am3039_429 h_am30310_432 h_am30311_435 h_am30312_438 h_am30313_441
    refine ab_eqS hb h_r_397 ab_m1 (fun hb => ?_) (fun hb => ?_)
    · refine sz_cheapest hb ?_ g_am3031_405 h_fm0_piled_399 h_fm0_clock_400 h_fm0_groups_401 h_fm0_wrong_402 h_am3036_420 h_am3037_423 h_am3038_426 h_am3039_429 h_am30310_432 h_am30311_435 h_am30312_438 h_am30313_441 h_x7 h_x6
      intro X_r_443 X_am3161_451 M_am3161_451 F_am3161_451 S_am3161_451 N_am3161_451 X_fm0_piled_445 X_fm0_clock_446 X_fm0_groups_447 X_fm0_wrong_448 X_am3166_466 X_am3167_469 X_am3168_472 X_am3169_475 X_am31610_478 X_am31611_481 X_am31612_484 X_am31613_487 r_443 fm0_op_444 fm0_piled_445 fm0_clock_446 fm0_groups_447 fm0_wrong_448 am3161_451 am3162_454 am3163_457 am3164_460 am3165_463 am3166_466 am3167_469 am3168_472 am3169_475 am31610_478 am31611_481 am31612_484 am31613_487 hb h_r_443 g_am3161_451 h_fm0_piled_445 h_fm0_clock_446 h_fm0_groups_447 h_fm0_wrong_448 h_am3166_466 h_am3167_469 h_am3168_472 h_am3169_475 h_am31610_478 h_am31611_481 h_am31612_484 h_am31613_487
      refine ab_eqS hb h_r_443 ab_m1 (fun hb => ?_) (fun hb => ?_)
      · refine sz_rounds hb ?_ g_am3161_451 h_fm0_piled_445 h_fm0_clock_446 h_fm0_groups_447 h_fm0_wrong_448 h_am3166_466 h_am3167_469 h_am3168_472 h_am3169_475 h_am31610_478 h_am31611_481 h_am31612_484 h_am31613_487 h_x6
        intro X_r_489 X_am3271_497 M_am3271_497 F_am3271_497 S_am3271_497 N_am3271_497 X_fm0_piled_491 X_fm0_clock_492 X_fm0_groups_493 X_fm0_wrong_494 X_am3276_512 X_am3277_515 X_am3278_518 X_am3279_521 X_am32710_524 X_am32711_527 X_am32712_530 X_am32713_533 r_489 fm0_op_490 fm0_piled_491 fm0_clock_492 fm0_groups_493 fm0_wrong_494 am3271_497 am3272_500 am3273_503 am3274_506 am3275_509 am3276_512 am3277_515 am3278_518 am3279_521 am32710_524 am32711_527 am32712_530 am32713_533 hb h_r_489 g_am3271_497 h_fm0_piled_491 h_fm0_clock_492 h_fm0_groups_493 h_fm0_wrong_494 h_am3276_512 h_am3277_515 h_am3278_518 h_am3279_521 h_am32710_524 h_am32711_527 h_am32712_530 h_am32713_533
        refine ab_eqS hb h_x10 ab_l0 (fun hb => ?_) (fun hb => ?_)
        · exact sz_lawOf_340 hb hk hcut_wL_lawOf_628 h_x0 h_x3 h_x5 h_x6 h_x7 h_x8 h_x9 h_x10 ab_m1 h_r_489 h_fm0_piled_491 h_fm0_clock_492 h_fm0_groups_493 h_fm0_wrong_494 g_am3271_497 h_am3276_512 h_am3277_515 h_am3278_518 h_am3279_521 h_am32710_524 h_am32711_527 h_am32712_530 h_am32713_533
        · exact sz_lawOf_340 hb hk hcut_wL_lawOf_628 h_x0 h_x3 h_x5 h_x6 h_x7 h_x8 h_x9 h_x10 ab_l0 h_r_489 h_fm0_piled_491 h_fm0_clock_492 h_fm0_groups_493 h_fm0_wrong_494 g_am3271_497 h_am3276_512 h_am3277_515 h_am3278_518 h_am3279_521 h_am32710_524 h_am32711_527 h_am32712_530 h_am32713_533
      · exact hk hb ab_l0
    · exact hk hb ab_l0
  · exact hk hb ab_l0
noncomputable def bz_lawOf_293 (k : Nat → Bool) (cut_wL_lawOf_628 : Nat → Nat → Nat → Nat → Nat → Nat → Nat → Nat → Nat → Nat → Nat → Nat → Nat → Nat → Nat → Nat → Nat → Nat → Nat → Nat → Nat → Nat → Nat → Bool) (X_x0 X_x3 X_x5 X_x6 X_x7 X_x8 X_x9 X_x10 X_z0 X_fm0_piled X_fm0_clock X_fm0_groups X_fm0_wrong X_am1851 M_am1851 F_am1851 S_am1851 N_am1851 X_am1856 X_am1857 X_am1858 X_am1859 X_am18510 X_am18511 X_am18512 X_am18513 : Nat) : Bool :=
  (bz_lawOf_294 k cut_wL_lawOf_628 X_x0 X_x3 X_x5 X_x6 X_x7 X_x8 X_x9 X_x10 15 X_z0 X_fm0_piled X_fm0_clock X_fm0_groups X_fm0_wrong X_am1851 M_am1851 F_am1851 S_am1851 N_am1851 X_am1856 X_am1857 X_am1858 X_am1859 X_am18510 X_am18511 X_am18512 X_am18513)
theorem sz_lawOf_293 {e : Nat → Int32} {post : Int32 → St0 → Prop} {k : Nat → Bool} {mc ms kc ks : Nat} {cut_wL_lawOf_628 : Nat → Nat → Nat → Nat → Nat → Nat → Nat → Nat → Nat → Nat → Nat → Nat → Nat → Nat → Nat → Nat → Nat → Nat → Nat → Nat → Nat → Nat → Nat → Bool} {X_x0 X_x3 X_x5 X_x6 X_x7 X_x8 X_x9 X_x10 X_z0 X_fm0_piled X_fm0_clock X_fm0_groups X_fm0_wrong X_am1851 M_am1851 F_am1851 S_am1851 N_am1851 X_am1856 X_am1857 X_am1858 X_am1859 X_am18510 X_am18511 X_am18512 X_am18513 : Nat} {x0 x3 x5 x6 x7 x8 x9 x10 z0 fm0_op fm0_piled fm0_clock fm0_groups fm0_wrong : Int32} {am1851 am1852 am1853 am1854 am1855 am1856 am1857 am1858 am1859 am18510 am18511 am18512 am18513 : Nat → Int32} (hb : bz_lawOf_293 k cut_wL_lawOf_628 X_x0 X_x3 X_x5 X_x6 X_x7 X_x8 X_x9 X_x10 X_z0 X_fm0_piled X_fm0_clock X_fm0_groups X_fm0_wrong X_am1851 M_am1851 F_am1851 S_am1851 N_am1851 X_am1856 X_am1857 X_am1858 X_am1859 X_am18510 X_am18511 X_am18512 X_am18513 = true) (hk : ∀ ⦃R : Nat⦄ ⦃r : Int32⦄, k R = true → ab_rv e R r → post r ()) (hcut_wL_lawOf_628 : ∀ ⦃X_x6 X_x7 X_x8 X_x10 X_z0 X_z1 X_fm0_piled X_fm0_clock X_fm0_groups X_fm0_wrong X_am6141 M_am6141 F_am6141 S_am6141 N_am6141 X_am6146 X_am6147 X_am6148 X_am6149 X_am61410 X_am61411 X_am61412 X_am61413 : Nat⦄ ⦃x6 x7 x8 x10 z0 z1 fm0_op fm0_piled fm0_clock fm0_groups fm0_wrong : Int32⦄ ⦃am6141 am6142 am6143 am6144 am6145 am6146 am6147 am6148 am6149 am61410 am61411 am61412 am61413 : Nat → Int32⦄, cut_wL_lawOf_628 X_x6 X_x7 X_x8 X_x10 X_z0 X_z1 X_fm0_piled X_fm0_clock X_fm0_groups X_fm0_wrong X_am6141 M_am6141 F_am6141 S_am6141 N_am6141 X_am6146 X_am6147 X_am6148 X_am6149 X_am61410 X_am61411 X_am61412 X_am61413 = true → ab_rv e X_x6 x6 → ab_rv e X_x7 x7 → ab_rv e X_x8 x8 → ab_rv e X_x10 x10 → ab_rv e X_z0 z0 → ab_rv e X_z1 z1 → ab_rv e X_fm0_piled fm0_piled → ab_rv e X_fm0_clock fm0_clock → ab_rv e X_fm0_groups fm0_groups → ab_rv e X_fm0_wrong fm0_wrong → ab_rg e X_am6141 M_am6141 F_am6141 S_am6141 N_am6141 fm0_op am6141 am6142 am6143 am6144 am6145 → ab_ra e 12 X_am6146 am6146 → ab_ra e 12 X_am6147 am6147 → ab_ra e 12 X_am6148 am6148 → ab_ra e 12 X_am6149 am6149 → ab_ra e 12 X_am61410 am61410 → ab_ra e 12 X_am61411 am61411 → ab_ra e 12 X_am61412 am61412 → ab_ra e 12 X_am61413 am61413 → wL_lawOf_628 post mc ms x6 x7 x8 x10 z0 z1 kc ks fm0_op fm0_piled fm0_clock fm0_groups fm0_wrong am6141 am6142 am6143 am6144 am6145 am6146 am6147 am6148 am6149 am61410 am61411 am61412 am61413) (h_x0 : ab_rv e X_x0 x0) (h_x3 : ab_rv e X_x3 x3) (h_x5 : ab_rv e X_x5 x5) (h_x6 : ab_rv e X_x6 x6) (h_x7 : ab_rv e X_x7 x7) (h_x8 : ab_rv e X_x8 x8) (h_x9 : ab_rv e X_x9 x9) (h_x10 : ab_rv e X_x10 x10) (h_z0 : ab_rv e X_z0 z0) (h_fm0_piled : ab_rv e X_fm0_piled fm0_piled) (h_fm0_clock : ab_rv e X_fm0_clock fm0_clock) (h_fm0_groups : ab_rv e X_fm0_groups fm0_groups) (h_fm0_wrong : ab_rv e X_fm0_wrong fm0_wrong) (g_am1851 : ab_rg e X_am1851 M_am1851 F_am1851 S_am1851 N_am1851 fm0_op am1851 am1852 am1853 am1854 am1855) (h_am1856 : ab_ra e 12 X_am1856 am1856) (h_am1857 : ab_ra e 12 X_am1857 am1857) (h_am1858 : ab_ra e 12 X_am1858 am1858) (h_am1859 : ab_ra e 12 X_am1859 am1859) (h_am18510 : ab_ra e 12 X_am18510 am18510) (h_am18511 : ab_ra e 12 X_am18511 am18511) (h_am18512 : ab_ra e 12 X_am18512 am18512) (h_am18513 : ab_ra e 12 X_am18513 am18513) : wL_lawOf_293 post mc ms x0 x3 x5 x6 x7 x8 x9 x10 z0 kc ks fm0_op fm0_piled fm0_clock fm0_groups fm0_wrong am1851 am1852 am1853 am1854 am1855 am1856 am1857 am1858 am1859 am18510 am18511 am18512 am18513 := by
  exact sz_lawOf_294 hb hk hcut_wL_lawOf_628 h_x0 h_x3 h_x5 h_x6 h_x7 h_x8 h_x9 h_x10 ab_m1 h_z0 h_fm0_piled h_fm0_clock h_fm0_groups h_fm0_wrong g_am1851 h_am1856 h_am1857 h_am1858 h_am1859 h_am18510 h_am18511 h_am18512 h_am18513
noncomputable def bz_lawOf_266 (k : Nat → Bool) (cut_wL_lawOf_628 : Nat → Nat → Nat → Nat → Nat → Nat → Nat → Nat → Nat → Nat → Nat → Nat → Nat → Nat → Nat → Nat → Nat → Nat → Nat → Nat → Nat → Nat → Nat → Bool) (X_x0 X_x3 X_x5 X_x6 X_x7 X_x8 X_x9 X_x10 X_z0 X_z1 X_fm0_piled X_fm0_clock X_fm0_groups X_fm0_wrong X_am1851 M_am1851 F_am1851 S_am1851 N_am1851 X_am1856 X_am1857 X_am1858 X_am1859 X_am18510 X_am18511 X_am18512 X_am18513 : Nat) : Bool :=
  (ab_eq X_z1 X_z0 (bz_chains (fun X_r_394 => (ab_eq X_x10 16 (bz_lawOf_293 k cut_wL_lawOf_628 X_x0 X_x3 X_x5 X_x6 X_x7 X_x8 X_x9 X_x10 X_r_394 X_fm0_piled X_fm0_clock X_fm0_groups X_fm0_wrong X_am1851 M_am1851 F_am1851 S_am1851 N_am1851 X_am1856 X_am1857 X_am1858 X_am1859 X_am18510 X_am18511 X_am18512 X_am18513) (ab_eq X_x9 16 (bz_lawOf_293 k cut_wL_lawOf_628 X_x0 X_x3 X_x5 X_x6 X_x7 X_x8 X_x9 X_x10 X_r_394 X_fm0_piled X_fm0_clock X_fm0_groups X_fm0_wrong X_am1851 M_am1851 F_am1851 S_am1851 N_am1851 X_am1856 X_am1857 X_am1858 X_am1859 X_am18510 X_am18511 X_am18512 X_am18513) (bz_lawOf_294 k cut_wL_lawOf_628 X_x0 X_x3 X_x5 X_x6 X_x7 X_x8 X_x9 X_x10 16 X_r_394 X_fm0_piled X_fm0_clock X_fm0_groups X_fm0_wrong X_am1851 M_am1851 F_am1851 S_am1851 N_am1851 X_am1856 X_am1857 X_am1858 X_am1859 X_am18510 X_am18511 X_am18512 X_am18513)))) X_am1851 M_am1851 F_am1851 S_am1851 N_am1851 X_fm0_piled X_fm0_clock X_fm0_groups X_fm0_wrong X_am1856 X_am1857 X_am1858 X_am1859 X_am18510 X_am18511 X_am18512 X_am18513 X_x6 20 X_x5) (k 16))
theorem sz_lawOf_266 {e : Nat → Int32} {post : Int32 → St0 → Prop} {k : Nat → Bool} {mc ms kc ks : Nat} {cut_wL_lawOf_628 : Nat → Nat → Nat → Nat → Nat → Nat → Nat → Nat → Nat → Nat → Nat → Nat → Nat → Nat → Nat → Nat → Nat → Nat → Nat → Nat → Nat → Nat → Nat → Bool} {X_x0 X_x3 X_x5 X_x6 X_x7 X_x8 X_x9 X_x10 X_z0 X_z1 X_fm0_piled X_fm0_clock X_fm0_groups X_fm0_wrong X_am1851 M_am1851 F_am1851 S_am1851 N_am1851 X_am1856 X_am1857 X_am1858 X_am1859 X_am18510 X_am18511 X_am18512 X_am18513 : Nat} {x0 x3 x5 x6 x7 x8 x9 x10 z0 z1 fm0_op fm0_piled fm0_clock fm0_groups fm0_wrong : Int32} {am1851 am1852 am1853 am1854 am1855 am1856 am1857 am1858 am1859 am18510 am18511 am18512 am18513 : Nat → Int32} (hb : bz_lawOf_266 k cut_wL_lawOf_628 X_x0 X_x3 X_x5 X_x6 X_x7 X_x8 X_x9 X_x10 X_z0 X_z1 X_fm0_piled X_fm0_clock X_fm0_groups X_fm0_wrong X_am1851 M_am1851 F_am1851 S_am1851 N_am1851 X_am1856 X_am1857 X_am1858 X_am1859 X_am18510 X_am18511 X_am18512 X_am18513 = true) (hk : ∀ ⦃R : Nat⦄ ⦃r : Int32⦄, k R = true → ab_rv e R r → post r ()) (hcut_wL_lawOf_628 : ∀ ⦃X_x6 X_x7 X_x8 X_x10 X_z0 X_z1 X_fm0_piled X_fm0_clock X_fm0_groups X_fm0_wrong X_am6141 M_am6141 F_am6141 S_am6141 N_am6141 X_am6146 X_am6147 X_am6148 X_am6149 X_am61410 X_am61411 X_am61412 X_am61413 : Nat⦄ ⦃x6 x7 x8 x10 z0 z1 fm0_op fm0_piled fm0_clock fm0_groups fm0_wrong : Int32⦄ ⦃am6141 am6142 am6143 am6144 am6145 am6146 am6147 am6148 am6149 am61410 am61411 am61412 am61413 : Nat → Int32⦄, cut_wL_lawOf_628 X_x6 X_x7 X_x8 X_x10 X_z0 X_z1 X_fm0_piled X_fm0_clock X_fm0_groups X_fm0_wrong X_am6141 M_am6141 F_am6141 S_am6141 N_am6141 X_am6146 X_am6147 X_am6148 X_am6149 X_am61410 X_am61411 X_am61412 X_am61413 = true → ab_rv e X_x6 x6 → ab_rv e X_x7 x7 → ab_rv e X_x8 x8 → ab_rv e X_x10 x10 → ab_rv e X_z0 z0 → ab_rv e X_z1 z1 → ab_rv e X_fm0_piled fm0_piled → ab_rv e X_fm0_clock fm0_clock → ab_rv e X_fm0_groups fm0_groups → ab_rv e X_fm0_wrong fm0_wrong → ab_rg e X_am6141 M_am6141 F_am6141 S_am6141 N_am6141 fm0_op am6141 am6142 am6143 am6144 am6145 → ab_ra e 12 X_am6146 am6146 → ab_ra e 12 X_am6147 am6147 → ab_ra e 12 X_am6148 am6148 → ab_ra e 12 X_am6149 am6149 → ab_ra e 12 X_am61410 am61410 → ab_ra e 12 X_am61411 am61411 → ab_ra e 12 X_am61412 am61412 → ab_ra e 12 X_am61413 am61413 → wL_lawOf_628 post mc ms x6 x7 x8 x10 z0 z1 kc ks fm0_op fm0_piled fm0_clock fm0_groups fm0_wrong am6141 am6142 am6143 am6144 am6145 am6146 am6147 am6148 am6149 am61410 am61411 am61412 am61413) (h_x0 : ab_rv e X_x0 x0) (h_x3 : ab_rv e X_x3 x3) (h_x5 : ab_rv e X_x5 x5) (h_x6 : ab_rv e X_x6 x6) (h_x7 : ab_rv e X_x7 x7) (h_x8 : ab_rv e X_x8 x8) (h_x9 : ab_rv e X_x9 x9) (h_x10 : ab_rv e X_x10 x10) (h_z0 : ab_rv e X_z0 z0) (h_z1 : ab_rv e X_z1 z1) (h_fm0_piled : ab_rv e X_fm0_piled fm0_piled) (h_fm0_clock : ab_rv e X_fm0_clock fm0_clock) (h_fm0_groups : ab_rv e X_fm0_groups fm0_groups) (h_fm0_wrong : ab_rv e X_fm0_wrong fm0_wrong) (g_am1851 : ab_rg e X_am1851 M_am1851 F_am1851 S_am1851 N_am1851 fm0_op am1851 am1852 am1853 am1854 am1855) (h_am1856 : ab_ra e 12 X_am1856 am1856) (h_am1857 : ab_ra e 12 X_am1857 am1857) (h_am1858 : ab_ra e 12 X_am1858 am1858) (h_am1859 : ab_ra e 12 X_am1859 am1859) (h_am18510 : ab_ra e 12 X_am18510 am18510) (h_am18511 : ab_ra e 12 X_am18511 am18511) (h_am18512 : ab_ra e 12 X_am18512 am18512) (h_am18513 : ab_ra e 12 X_am18513 am18513) : wL_lawOf_266 post mc ms x0 x3 x5 x6 x7 x8 x9 x10 z0 z1 kc ks fm0_op fm0_piled fm0_clock fm0_groups fm0_wrong am1851 am1852 am1853 am1854 am1855 am1856 am1857 am1858 am1859 am18510 am18511 am18512 am18513 := by
  refine ab_eqS hb h_z1 h_z0 (fun hb => ?_) (fun hb => ?_)
  · refine sz_chains hb ?_ g_am1851 h_fm0_piled h_fm0_clock h_fm0_groups h_fm0_wrong h_am1856 h_am1857 h_am1858 h_am1859 h_am18510 h_am18511 h_am18512 h_am18513 h_x6 ab_l4 h_x5
    intro X_r_394 r_394 hb h_r_394
    refine ab_eqS hb h_x10 ab_l0 (fun hb => ?_) (fun hb => ?_)
    · exact sz_lawOf_293 hb hk hcut_wL_lawOf_628 h_x0 h_x3 h_x5 h_x6 h_x7 h_x8 h_x9 h_x10 h_r_394 h_fm0_piled h_fm0_clock h_fm0_groups h_fm0_wrong g_am1851 h_am1856 h_am1857 h_am1858 h_am1859 h_am18510 h_am18511 h_am18512 h_am18513
    · refine ab_eqS hb h_x9 ab_l0 (fun hb => ?_) (fun hb => ?_)
      · exact sz_lawOf_293 hb hk hcut_wL_lawOf_628 h_x0 h_x3 h_x5 h_x6 h_x7 h_x8 h_x9 h_x10 h_r_394 h_fm0_piled h_fm0_clock h_fm0_groups h_fm0_wrong g_am1851 h_am1856 h_am1857 h_am1858 h_am1859 h_am18510 h_am18511 h_am18512 h_am18513
      · exact sz_lawOf_294 hb hk hcut_wL_lawOf_628 h_x0 h_x3 h_x5 h_x6 h_x7 h_x8 h_x9 h_x10 ab_l0 h_r_394 h_fm0_piled h_fm0_clock h_fm0_groups h_fm0_wrong g_am1851 h_am1856 h_am1857 h_am1858 h_am1859 h_am18510 h_am18511 h_am18512 h_am18513
  · exact hk hb ab_l0
noncomputable def bz_lawOf_117 (k : Nat → Bool) (cut_wL_lawOf_628 : Nat → Nat → Nat → Nat → Nat → Nat → Nat → Nat → Nat → Nat → Nat → Nat → Nat → Nat → Nat → Nat → Nat → Nat → Nat → Nat → Nat → Nat → Nat → Bool) (X_x0 X_x1 X_x3 X_x5 X_x6 X_x7 X_x8 X_x9 X_z0 X_fm0_piled X_fm0_clock X_fm0_groups X_fm0_wrong X_am41 M_am41 F_am41 S_am41 N_am41 X_am46 X_am47 X_am48 X_am49 X_am410 X_am411 X_am412 X_am413 : Nat) : Bool :=
  (bz_setNode (fun X_r_59 X_am1241_67 M_am1241_67 F_am1241_67 S_am1241_67 N_am1241_67 X_fm0_piled_61 X_fm0_clock_62 X_fm0_groups_63 X_fm0_wrong_64 X_am1246_82 X_am1247_85 X_am1248_88 X_am1249_91 X_am12410_94 X_am12411_97 X_am12412_100 X_am12413_103 => (ab_eq X_r_59 15 (bz_setWeight (fun X_r_105 X_am1351_113 M_am1351_113 F_am1351_113 S_am1351_113 N_am1351_113 X_fm0_piled_107 X_fm0_clock_108 X_fm0_groups_109 X_fm0_wrong_110 X_am1356_128 X_am1357_131 X_am1358_134 X_am1359_137 X_am13510_140 X_am13511_143 X_am13512_146 X_am13513_149 => (ab_eq X_r_105 15 (bz_cut (fun X_r_151 X_am1451_159 M_am1451_159 F_am1451_159 S_am1451_159 N_am1451_159 X_fm0_piled_153 X_fm0_clock_154 X_fm0_groups_155 X_fm0_wrong_156 X_am1456_174 X_am1457_177 X_am1458_180 X_am1459_183 X_am14510_186 X_am14511_189 X_am14512_192 X_am14513_195 => (ab_eq X_r_151 15 (bz_drop (fun X_r_197 X_am1561_205 M_am1561_205 F_am1561_205 S_am1561_205 N_am1561_205 X_fm0_piled_199 X_fm0_clock_200 X_fm0_groups_201 X_fm0_wrong_202 X_am1566_220 X_am1567_223 X_am1568_226 X_am1569_229 X_am15610_232 X_am15611_235 X_am15612_238 X_am15613_241 => (ab_eq X_r_197 15 (bz_end (fun X_r_243 X_am1651_251 M_am1651_251 F_am1651_251 S_am1651_251 N_am1651_251 X_fm0_piled_245 X_fm0_clock_246 X_fm0_groups_247 X_fm0_wrong_248 X_am1656_266 X_am1657_269 X_am1658_272 X_am1659_275 X_am16510_278 X_am16511_281 X_am16512_284 X_am16513_287 => (ab_eq X_r_243 14 (bz_undo (fun X_r_289 X_am1751_297 M_am1751_297 F_am1751_297 S_am1751_297 N_am1751_297 X_fm0_piled_291 X_fm0_clock_292 X_fm0_groups_293 X_fm0_wrong_294 X_am1756_312 X_am1757_315 X_am1758_318 X_am1759_321 X_am17510_324 X_am17511_327 X_am17512_330 X_am17513_333 => (ab_eq X_r_289 14 (bz_crash (fun X_r_335 X_am1851_343 M_am1851_343 F_am1851_343 S_am1851_343 N_am1851_343 X_fm0_piled_337 X_fm0_clock_338 X_fm0_groups_339 X_fm0_wrong_340 X_am1856_358 X_am1857_361 X_am1858_364 X_am1859_367 X_am18510_370 X_am18511_373 X_am18512_376 X_am18513_379 => (ab_eq X_r_335 16 (bz_labels (fun X_r_381 => (ab_eq X_r_381 15 (bz_value (fun X_r_383 => (ab_eq X_r_383 16 (bz_look (fun X_r_385 => (ab_eq X_r_385 15 (bz_degree (fun X_r_387 => (ab_eq X_r_387 15 (bz_arrowAt (fun X_r_389 => (ab_eq X_r_389 15 (bz_find (fun X_r_391 => (ab_eq X_x9 16 (bz_lawOf_266 k cut_wL_lawOf_628 X_x0 X_x3 X_x5 X_x6 X_x7 X_x8 X_x9 X_z0 15 X_r_391 X_fm0_piled_337 X_fm0_clock_338 X_fm0_groups_339 X_fm0_wrong_340 X_am1851_343 M_am1851_343 F_am1851_343 S_am1851_343 N_am1851_343 X_am1856_358 X_am1857_361 X_am1858_364 X_am1859_367 X_am18510_370 X_am18511_373 X_am18512_376 X_am18513_379) (bz_lawOf_266 k cut_wL_lawOf_628 X_x0 X_x3 X_x5 X_x6 X_x7 X_x8 X_x9 X_z0 14 X_r_391 X_fm0_piled_337 X_fm0_clock_338 X_fm0_groups_339 X_fm0_wrong_340 X_am1851_343 M_am1851_343 F_am1851_343 S_am1851_343 N_am1851_343 X_am1856_358 X_am1857_361 X_am1858_364 X_am1859_367 X_am18510_370 X_am18511_373 X_am18512_376 X_am18513_379))) X_am1851_343 M_am1851_343 F_am1851_343 S_am1851_343 N_am1851_343 X_fm0_piled_337 X_fm0_clock_338 X_fm0_groups_339 X_fm0_wrong_340 X_am1856_358 X_am1857_361 X_am1858_364 X_am1859_367 X_am18510_370 X_am18511_373 X_am18512_376 X_am18513_379 X_x5 X_x1) (k 16))) X_am1851_343 M_am1851_343 F_am1851_343 S_am1851_343 N_am1851_343 X_fm0_piled_337 X_fm0_clock_338 X_fm0_groups_339 X_fm0_wrong_340 X_am1856_358 X_am1857_361 X_am1858_364 X_am1859_367 X_am18510_370 X_am18511_373 X_am18512_376 X_am18513_379 X_x0 X_x1) (k 16))) X_am1851_343 M_am1851_343 F_am1851_343 S_am1851_343 N_am1851_343 X_fm0_piled_337 X_fm0_clock_338 X_fm0_groups_339 X_fm0_wrong_340 X_am1856_358 X_am1857_361 X_am1858_364 X_am1859_367 X_am18510_370 X_am18511_373 X_am18512_376 X_am18513_379 X_x0 X_x6 16) (k 16))) X_am1851_343 M_am1851_343 F_am1851_343 S_am1851_343 N_am1851_343 X_fm0_piled_337 X_fm0_clock_338 X_fm0_groups_339 X_fm0_wrong_340 X_am1856_358 X_am1857_361 X_am1858_364 X_am1859_367 X_am18510_370 X_am18511_373 X_am18512_376 X_am18513_379 X_x0 X_x1) (k 16))) X_am1851_343 M_am1851_343 F_am1851_343 S_am1851_343 N_am1851_343 X_fm0_piled_337 X_fm0_clock_338 X_fm0_groups_339 X_fm0_wrong_340 X_am1856_358 X_am1857_361 X_am1858_364 X_am1859_367 X_am18510_370 X_am18511_373 X_am18512_376 X_am18513_379 X_x0) (k 16))) X_am1851_343 M_am1851_343 F_am1851_343 S_am1851_343 N_am1851_343 X_fm0_piled_337 X_fm0_clock_338 X_fm0_groups_339 X_fm0_wrong_340 X_am1856_358 X_am1857_361 X_am1858_364 X_am1859_367 X_am18510_370 X_am18511_373 X_am18512_376 X_am18513_379 X_x0) (k 16))) X_am1751_297 M_am1751_297 F_am1751_297 S_am1751_297 N_am1751_297 X_fm0_piled_291 X_fm0_clock_292 X_fm0_groups_293 X_fm0_wrong_294 X_am1756_312 X_am1757_315 X_am1758_318 X_am1759_321 X_am17510_324 X_am17511_327 X_am17512_330 X_am17513_333) (k 16))) X_am1651_251 M_am1651_251 F_am1651_251 S_am1651_251 N_am1651_251 X_fm0_piled_245 X_fm0_clock_246 X_fm0_groups_247 X_fm0_wrong_248 X_am1656_266 X_am1657_269 X_am1658_272 X_am1659_275 X_am16510_278 X_am16511_281 X_am16512_284 X_am16513_287) (k 16))) X_am1561_205 M_am1561_205 F_am1561_205 S_am1561_205 N_am1561_205 X_fm0_piled_199 X_fm0_clock_200 X_fm0_groups_201 X_fm0_wrong_202 X_am1566_220 X_am1567_223 X_am1568_226 X_am1569_229 X_am15610_232 X_am15611_235 X_am15612_238 X_am15613_241) (k 16))) X_am1451_159 M_am1451_159 F_am1451_159 S_am1451_159 N_am1451_159 X_fm0_piled_153 X_fm0_clock_154 X_fm0_groups_155 X_fm0_wrong_156 X_am1456_174 X_am1457_177 X_am1458_180 X_am1459_183 X_am14510_186 X_am14511_189 X_am14512_192 X_am14513_195 X_x0 17) (k 16))) X_am1351_113 M_am1351_113 F_am1351_113 S_am1351_113 N_am1351_113 X_fm0_piled_107 X_fm0_clock_108 X_fm0_groups_109 X_fm0_wrong_110 X_am1356_128 X_am1357_131 X_am1358_134 X_am1359_137 X_am13510_140 X_am13511_143 X_am13512_146 X_am13513_149 X_x0) (k 16))) X_am1241_67 M_am1241_67 F_am1241_67 S_am1241_67 N_am1241_67 X_fm0_piled_61 X_fm0_clock_62 X_fm0_groups_63 X_fm0_wrong_64 X_am1246_82 X_am1247_85 X_am1248_88 X_am1249_91 X_am12410_94 X_am12411_97 X_am12412_100 X_am12413_103 X_x0 16) (k 16))) X_am41 M_am41 F_am41 S_am41 N_am41 X_fm0_piled X_fm0_clock X_fm0_groups X_fm0_wrong X_am46 X_am47 X_am48 X_am49 X_am410 X_am411 X_am412 X_am413 X_x0 16 16)
theorem sz_lawOf_117 {e : Nat → Int32} {post : Int32 → St0 → Prop} {k : Nat → Bool} {mc ms kc ks : Nat} {cut_wL_lawOf_628 : Nat → Nat → Nat → Nat → Nat → Nat → Nat → Nat → Nat → Nat → Nat → Nat → Nat → Nat → Nat → Nat → Nat → Nat → Nat → Nat → Nat → Nat → Nat → Bool} {X_x0 X_x1 X_x3 X_x5 X_x6 X_x7 X_x8 X_x9 X_z0 X_fm0_piled X_fm0_clock X_fm0_groups X_fm0_wrong X_am41 M_am41 F_am41 S_am41 N_am41 X_am46 X_am47 X_am48 X_am49 X_am410 X_am411 X_am412 X_am413 : Nat} {x0 x1 x3 x5 x6 x7 x8 x9 z0 fm0_op fm0_piled fm0_clock fm0_groups fm0_wrong : Int32} {am41 am42 am43 am44 am45 am46 am47 am48 am49 am410 am411 am412 am413 : Nat → Int32} (hb : bz_lawOf_117 k cut_wL_lawOf_628 X_x0 X_x1 X_x3 X_x5 X_x6 X_x7 X_x8 X_x9 X_z0 X_fm0_piled X_fm0_clock X_fm0_groups X_fm0_wrong X_am41 M_am41 F_am41 S_am41 N_am41 X_am46 X_am47 X_am48 X_am49 X_am410 X_am411 X_am412 X_am413 = true) (hk : ∀ ⦃R : Nat⦄ ⦃r : Int32⦄, k R = true → ab_rv e R r → post r ()) (hcut_wL_lawOf_628 : ∀ ⦃X_x6 X_x7 X_x8 X_x10 X_z0 X_z1 X_fm0_piled X_fm0_clock X_fm0_groups X_fm0_wrong X_am6141 M_am6141 F_am6141 S_am6141 N_am6141 X_am6146 X_am6147 X_am6148 X_am6149 X_am61410 X_am61411 X_am61412 X_am61413 : Nat⦄ ⦃x6 x7 x8 x10 z0 z1 fm0_op fm0_piled fm0_clock fm0_groups fm0_wrong : Int32⦄ ⦃am6141 am6142 am6143 am6144 am6145 am6146 am6147 am6148 am6149 am61410 am61411 am61412 am61413 : Nat → Int32⦄, cut_wL_lawOf_628 X_x6 X_x7 X_x8 X_x10 X_z0 X_z1 X_fm0_piled X_fm0_clock X_fm0_groups X_fm0_wrong X_am6141 M_am6141 F_am6141 S_am6141 N_am6141 X_am6146 X_am6147 X_am6148 X_am6149 X_am61410 X_am61411 X_am61412 X_am61413 = true → ab_rv e X_x6 x6 → ab_rv e X_x7 x7 → ab_rv e X_x8 x8 → ab_rv e X_x10 x10 → ab_rv e X_z0 z0 → ab_rv e X_z1 z1 → ab_rv e X_fm0_piled fm0_piled → ab_rv e X_fm0_clock fm0_clock → ab_rv e X_fm0_groups fm0_groups → ab_rv e X_fm0_wrong fm0_wrong → ab_rg e X_am6141 M_am6141 F_am6141 S_am6141 N_am6141 fm0_op am6141 am6142 am6143 am6144 am6145 → ab_ra e 12 X_am6146 am6146 → ab_ra e 12 X_am6147 am6147 → ab_ra e 12 X_am6148 am6148 → ab_ra e 12 X_am6149 am6149 → ab_ra e 12 X_am61410 am61410 → ab_ra e 12 X_am61411 am61411 → ab_ra e 12 X_am61412 am61412 → ab_ra e 12 X_am61413 am61413 → wL_lawOf_628 post mc ms x6 x7 x8 x10 z0 z1 kc ks fm0_op fm0_piled fm0_clock fm0_groups fm0_wrong am6141 am6142 am6143 am6144 am6145 am6146 am6147 am6148 am6149 am61410 am61411 am61412 am61413) (h_x0 : ab_rv e X_x0 x0) (h_x1 : ab_rv e X_x1 x1) (h_x3 : ab_rv e X_x3 x3) (h_x5 : ab_rv e X_x5 x5) (h_x6 : ab_rv e X_x6 x6) (h_x7 : ab_rv e X_x7 x7) (h_x8 : ab_rv e X_x8 x8) (h_x9 : ab_rv e X_x9 x9) (h_z0 : ab_rv e X_z0 z0) (h_fm0_piled : ab_rv e X_fm0_piled fm0_piled) (h_fm0_clock : ab_rv e X_fm0_clock fm0_clock) (h_fm0_groups : ab_rv e X_fm0_groups fm0_groups) (h_fm0_wrong : ab_rv e X_fm0_wrong fm0_wrong) (g_am41 : ab_rg e X_am41 M_am41 F_am41 S_am41 N_am41 fm0_op am41 am42 am43 am44 am45) (h_am46 : ab_ra e 12 X_am46 am46) (h_am47 : ab_ra e 12 X_am47 am47) (h_am48 : ab_ra e 12 X_am48 am48) (h_am49 : ab_ra e 12 X_am49 am49) (h_am410 : ab_ra e 12 X_am410 am410) (h_am411 : ab_ra e 12 X_am411 am411) (h_am412 : ab_ra e 12 X_am412 am412) (h_am413 : ab_ra e 12 X_am413 am413) : wL_lawOf_117 post mc ms x0 x1 x3 x5 x6 x7 x8 x9 z0 kc ks fm0_op fm0_piled fm0_clock fm0_groups fm0_wrong am41 am42 am43 am44 am45 am46 am47 am48 am49 am410 am411 am412 am413 := by
  unfold wL_lawOf_117
  refine sz_setNode hb ?_ g_am41 h_fm0_piled h_fm0_clock h_fm0_groups h_fm0_wrong h_am46 h_am47 h_am48 h_am49 h_am410 h_am411 h_am412 h_am413 h_x0 ab_l0 ab_l0
  intro X_r_59 X_am1241_67 M_am1241_67 F_am1241_67 S_am1241_67 N_am1241_67 X_fm0_piled_61 X_fm0_clock_62 X_fm0_groups_63 X_fm0_wrong_64 X_am1246_82 X_am1247_85 X_am1248_88 X_am1249_91 X_am12410_94 X_am12411_97 X_am12412_100 X_am12413_103 r_59 fm0_op_60 fm0_piled_61 fm0_clock_62 fm0_groups_63 fm0_wrong_64 am1241_67 am1242_70 am1243_73 am1244_76 am1245_79 am1246_82 am1247_85 am1248_88 am1249_91 am12410_94 am12411_97 am12412_100 am12413_103 hb h_r_59 g_am1241_67 h_fm0_piled_61 h_fm0_clock_62 h_fm0_groups_63 h_fm0_wrong_64 h_am1246_82 h_am1247_85 h_am1248_88 h_am1249_91 h_am12410_94 h_am12411_97 h_am12412_100 h_am12413_103
  refine ab_eqS hb h_r_59 ab_m1 (fun hb => ?_) (fun hb => ?_)
  · refine sz_setWeight hb ?_ g_am1241_67 h_fm0_piled_61 h_fm0_clock_62 h_fm0_groups_63 h_fm0_wrong_64 h_am1246_82 h_am1247_85 h_am1248_88 h_am1249_91 h_am12410_94 h_am12411_97 h_am12412_100 h_am12413_103 h_x0 ab_l0
    intro X_r_105 X_am1351_113 M_am1351_113 F_am1351_113 S_am1351_113 N_am1351_113 X_fm0_piled_107 X_fm0_clock_108 X_fm0_groups_109 X_fm0_wrong_110 X_am1356_128 X_am1357_131 X_am1358_134 X_am1359_137 X_am13510_140 X_am13511_143 X_am13512_146 X_am13513_149 r_105 fm0_op_106 fm0_piled_107 fm0_clock_108 fm0_groups_109 fm0_wrong_110 am1351_113 am1352_116 am1353_119 am1354_122 am1355_125 am1356_128 am1357_131 am1358_134 am1359_137 am13510_140 am13511_143 am13512_146 am13513_149 hb h_r_105 g_am1351_113 h_fm0_piled_107 h_fm0_clock_108 h_fm0_groups_109 h_fm0_wrong_110 h_am1356_128 h_am1357_131 h_am1358_134 h_am1359_137 h_am13510_140 h_am13511_143 h_am13512_146 h_am13513_149
    refine ab_eqS hb h_r_105 ab_m1 (fun hb => ?_) (fun hb => ?_)
    · refine sz_cut hb ?_ g_am1351_113 h_fm0_piled_107 h_fm0_clock_108 h_fm0_groups_109 h_fm0_wrong_110 h_am1356_128 h_am1357_131 h_am1358_134 h_am1359_137 h_am13510_140 h_am13511_143 h_am13512_146 h_am13513_149 h_x0
      intro X_r_151 X_am1451_159 M_am1451_159 F_am1451_159 S_am1451_159 N_am1451_159 X_fm0_piled_153 X_fm0_clock_154 X_fm0_groups_155 X_fm0_wrong_156 X_am1456_174 X_am1457_177 X_am1458_180 X_am1459_183 X_am14510_186 X_am14511_189 X_am14512_192 X_am14513_195 r_151 fm0_op_152 fm0_piled_153 fm0_clock_154 fm0_groups_155 fm0_wrong_156 am1451_159 am1452_162 am1453_165 am1454_168 am1455_171 am1456_174 am1457_177 am1458_180 am1459_183 am14510_186 am14511_189 am14512_192 am14513_195 hb h_r_151 g_am1451_159 h_fm0_piled_153 h_fm0_clock_154 h_fm0_groups_155 h_fm0_wrong_156 h_am1456_174 h_am1457_177 h_am1458_180 h_am1459_183 h_am14510_186 h_am14511_189 h_am14512_192 h_am14513_195
      refine ab_eqS hb h_r_151 ab_m1 (fun hb => ?_) (fun hb => ?_)
      · refine sz_drop hb ?_ g_am1451_159 h_fm0_piled_153 h_fm0_clock_154 h_fm0_groups_155 h_fm0_wrong_156 h_am1456_174 h_am1457_177 h_am1458_180 h_am1459_183 h_am14510_186 h_am14511_189 h_am14512_192 h_am14513_195 h_x0 ab_l1
        intro X_r_197 X_am1561_205 M_am1561_205 F_am1561_205 S_am1561_205 N_am1561_205 X_fm0_piled_199 X_fm0_clock_200 X_fm0_groups_201 X_fm0_wrong_202 X_am1566_220 X_am1567_223 X_am1568_226 X_am1569_229 X_am15610_232 X_am15611_235 X_am15612_238 X_am15613_241 r_197 fm0_op_198 fm0_piled_199 fm0_clock_200 fm0_groups_201 fm0_wrong_202 am1561_205 am1562_208 am1563_211 am1564_214 am1565_217 am1566_220 am1567_223 am1568_226 am1569_229 am15610_232 am15611_235 am15612_238 am15613_241 hb h_r_197 g_am1561_205 h_fm0_piled_199 h_fm0_clock_200 h_fm0_groups_201 h_fm0_wrong_202 h_am1566_220 h_am1567_223 h_am1568_226 h_am1569_229 h_am15610_232 h_am15611_235 h_am15612_238 h_am15613_241
        refine ab_eqS hb h_r_197 ab_m1 (fun hb => ?_) (fun hb => ?_)
        · refine sz_end hb ?_ g_am1561_205 h_fm0_piled_199 h_fm0_clock_200 h_fm0_groups_201 h_fm0_wrong_202 h_am1566_220 h_am1567_223 h_am1568_226 h_am1569_229 h_am15610_232 h_am15611_235 h_am15612_238 h_am15613_241
          intro X_r_243 X_am1651_251 M_am1651_251 F_am1651_251 S_am1651_251 N_am1651_251 X_fm0_piled_245 X_fm0_clock_246 X_fm0_groups_247 X_fm0_wrong_248 X_am1656_266 X_am1657_269 X_am1658_272 X_am1659_275 X_am16510_278 X_am16511_281 X_am16512_284 X_am16513_287 r_243 fm0_op_244 fm0_piled_245 fm0_clock_246 fm0_groups_247 fm0_wrong_248 am1651_251 am1652_254 am1653_257 am1654_260 am1655_263 am1656_266 am1657_269 am1658_272 am1659_275 am16510_278 am16511_281 am16512_284 am16513_287 hb h_r_243 g_am1651_251 h_fm0_piled_245 h_fm0_clock_246 h_fm0_groups_247 h_fm0_wrong_248 h_am1656_266 h_am1657_269 h_am1658_272 h_am1659_275 h_am16510_278 h_am16511_281 h_am16512_284 h_am16513_287
          refine ab_eqS hb h_r_243 ab_m2 (fun hb => ?_) (fun hb => ?_)
          · refine sz_undo hb ?_ g_am1651_251 h_fm0_piled_245 h_fm0_clock_246 h_fm0_groups_247 h_fm0_wrong_248 h_am1656_266 h_am1657_269 h_am1658_272 h_am1659_275 h_am16510_278 h_am16511_281 h_am16512_284 h_am16513_287
            intro X_r_289 X_am1751_297 M_am1751_297 F_am1751_297 S_am1751_297 N_am1751_297 X_fm0_piled_291 X_fm0_clock_292 X_fm0_groups_293 X_fm0_wrong_294 X_am1756_312 X_am1757_315 X_am1758_318 X_am1759_321 X_am17510_324 X_am17511_327 X_am17512_330 X_am17513_333 r_289 fm0_op_290 fm0_piled_291 fm0_clock_292 fm0_groups_293 fm0_wrong_294 am1751_297 am1752_300 am1753_303 am1754_306 am1755_309 am1756_312 am1757_315 am1758_318 am1759_321 am17510_324 am17511_327 am17512_330 am17513_333 hb h_r_289 g_am1751_297 h_fm0_piled_291 h_fm0_clock_292 h_fm0_groups_293 h_fm0_wrong_294 h_am1756_312 h_am1757_315 h_am1758_318 h_am1759_321 h_am17510_324 h_am17511_327 h_am17512_330 h_am17513_333
            refine ab_eqS hb h_r_289 ab_m2 (fun hb => ?_) (fun hb => ?_)
            · refine sz_crash hb ?_ g_am1751_297 h_fm0_piled_291 h_fm0_clock_292 h_fm0_groups_293 h_fm0_wrong_294 h_am1756_312 h_am1757_315 h_am1758_318 h_am1759_321 h_am17510_324 h_am17511_327 h_am17512_330 h_am17513_333
              intro X_r_335 X_am1851_343 M_am1851_343 F_am1851_343 S_am1851_343 N_am1851_343 X_fm0_piled_337 X_fm0_clock_338 X_fm0_groups_339 X_fm0_wrong_340 X_am1856_358 X_am1857_361 X_am1858_364 X_am1859_367 X_am18510_370 X_am18511_373 X_am18512_376 X_am18513_379 r_335 fm0_op_336 fm0_piled_337 fm0_clock_338 fm0_groups_339 fm0_wrong_340 am1851_343 am1852_346 am1853_349 am1854_352 am1855_355 am1856_358 am1857_361 am1858_364 am1859_367 am18510_370 am18511_373 am18512_376 am18513_379 hb h_r_335 g_am1851_343 h_fm0_piled_337 h_fm0_clock_338 h_fm0_groups_339 h_fm0_wrong_340 h_am1856_358 h_am1857_361 h_am1858_364 h_am1859_367 h_am18510_370 h_am18511_373 h_am18512_376 h_am18513_379
              refine ab_eqS hb h_r_335 ab_l0 (fun hb => ?_) (fun hb => ?_)
              · refine sz_labels hb ?_ g_am1851_343 h_fm0_piled_337 h_fm0_clock_338 h_fm0_groups_339 h_fm0_wrong_340 h_am1856_358 h_am1857_361 h_am1858_364 h_am1859_367 h_am18510_370 h_am18511_373 h_am18512_376 h_am18513_379 h_x0
                intro X_r_381 r_381 hb h_r_381
                refine ab_eqS hb h_r_381 ab_m1 (fun hb => ?_) (fun hb => ?_)
                · refine sz_value hb ?_ g_am1851_343 h_fm0_piled_337 h_fm0_clock_338 h_fm0_groups_339 h_fm0_wrong_340 h_am1856_358 h_am1857_361 h_am1858_364 h_am1859_367 h_am18510_370 h_am18511_373 h_am18512_376 h_am18513_379 h_x0
                  intro X_r_383 r_383 hb h_r_383
                  refine ab_eqS hb h_r_383 ab_l0 (fun hb => ?_) (fun hb => ?_)
                  · refine sz_look hb ?_ g_am1851_343 h_fm0_piled_337 h_fm0_clock_338 h_fm0_groups_339 h_fm0_wrong_340 h_am1856_358 h_am1857_361 h_am1858_364 h_am1859_367 h_am18510_370 h_am18511_373 h_am18512_376 h_am18513_379 h_x0 h_x1
                    intro X_r_385 r_385 hb h_r_385
                    refine ab_eqS hb h_r_385 ab_m1 (fun hb => ?_) (fun hb => ?_)
                    · refine sz_degree hb ?_ g_am1851_343 h_fm0_piled_337 h_fm0_clock_338 h_fm0_groups_339 h_fm0_wrong_340 h_am1856_358 h_am1857_361 h_am1858_364 h_am1859_367 h_am18510_370 h_am18511_373 h_am18512_376 h_am18513_379 h_x0 h_x6 ab_l0
                      intro X_r_387 r_387 hb h_r_387
                      refine ab_eqS hb h_r_387 ab_m1 (fun hb => ?_) (fun hb => ?_)
                      · refine sz_arrowAt hb ?_ g_am1851_343 h_fm0_piled_337 h_fm0_clock_338 h_fm0_groups_339 h_fm0_wrong_340 h_am1856_358 h_am1857_361 h_am1858_364 h_am1859_367 h_am18510_370 h_am18511_373 h_am18512_376 h_am18513_379 h_x0 h_x1
                        intro X_r_389 r_389 hb h_r_389
                        refine ab_eqS hb h_r_389 ab_m1 (fun hb => ?_) (fun hb => ?_)
                        · refine sz_find hb ?_ g_am1851_343 h_fm0_piled_337 h_fm0_clock_338 h_fm0_groups_339 h_fm0_wrong_340 h_am1856_358 h_am1857_361 h_am1858_364 h_am1859_367 h_am18510_370 h_am18511_373 h_am18512_376 h_am18513_379 h_x5 h_x1
                          intro X_r_391 r_391 hb h_r_391
                          refine ab_eqS hb h_x9 ab_l0 (fun hb => ?_) (fun hb => ?_)
                          · exact sz_lawOf_266 hb hk hcut_wL_lawOf_628 h_x0 h_x3 h_x5 h_x6 h_x7 h_x8 h_x9 h_z0 ab_m1 h_r_391 h_fm0_piled_337 h_fm0_clock_338 h_fm0_groups_339 h_fm0_wrong_340 g_am1851_343 h_am1856_358 h_am1857_361 h_am1858_364 h_am1859_367 h_am18510_370 h_am18511_373 h_am18512_376 h_am18513_379
                          · exact sz_lawOf_266 hb hk hcut_wL_lawOf_628 h_x0 h_x3 h_x5 h_x6 h_x7 h_x8 h_x9 h_z0 ab_m2 h_r_391 h_fm0_piled_337 h_fm0_clock_338 h_fm0_groups_339 h_fm0_wrong_340 g_am1851_343 h_am1856_358 h_am1857_361 h_am1858_364 h_am1859_367 h_am18510_370 h_am18511_373 h_am18512_376 h_am18513_379
                        · exact hk hb ab_l0
                      · exact hk hb ab_l0
                    · exact hk hb ab_l0
                  · exact hk hb ab_l0
                · exact hk hb ab_l0
              · exact hk hb ab_l0
            · exact hk hb ab_l0
          · exact hk hb ab_l0
        · exact hk hb ab_l0
      · exact hk hb ab_l0
    · exact hk hb ab_l0
  · exact hk hb ab_l0
end
section
def ab_A0 : Nat := 599118797119887302873664136237357704499909453930699900155893657165378776047538737677042183411939100143444733442823601292632770401919199777720158549329437826978726591078451265849918618286479850603080755313893991242546341847271498178125693866575955307545109968217461126291568604491508847855596900358511788573707582713054094836243682181132031455213717608622071206859126621634217755340386528982398535141674780255957343178132470799276642831473632390846671874477136780437028917498502250872307418612812359223172257372729503749101055932154212296752798211257632165746216806395335912286232236188624992296844780626890773964086168113747667493779003033104550232453593987440179945366734679971981761644055533450164611358966371370066746795523956499873816378469591605356366983441757003618792812244486380048234402287440058074660954530967411232071785206912653007298379932440866539306861788841872231560928211344288645189989432564286983278675900527235772577194058684044968568827928578217736761194297602582902220210975708260796329184326128160644460269849418975069529494828890511395999770312553148664994633816177005535257515937270200750300075302931618919711972248906075610922111301820676060229609698689284683801482135479283806744433702565641347928270312568832699749873301070958123260889622349603077242317670078914443410599218871367739557058347771513626138135839053102323316543606705937357304181392326560494105373319173299713458526180108274425296736266208960052352579808179932729198232999686404985619107257982374084539715009324590326141913986382514222999048646254322819952466289604831457668140968011300815727518774112925379193415153360783318454015442287569309498569028427301224219737953317777389595211915735921156183826264775896299141180595284922424713994629793087411127098216793576854463209784928027482786778753046997832353611018758691777284980078880309254792056770788311478312434813882851248126352522588293537843303293503491784251706643133365530486050836645150113043780393448103548776723822989641412542775289271747768233877448306935237959584700672843824247657120649110476878846202720669053568055252221762558311550521031182443780217592405968317602262618161644068222344248853464411243892932687345964854563053742210637721466314356908618244998298420346461511059107751661992374394388355606869140970957381657852590047894022375037737714742062006711638419084899882323247995078997340742492305513299440986978091782566026733590830737831401167367257197151128415777508495003693887008396663596486116965103495671516047873993542423667904416488065167553890370345433921420294124598726076473270939183458448723163602387302176075002584444307802852990784514549380405553154817798403447187190486002193830386552744943533371164481464298797675325195522585615865572711182886235760414459595191994364304827348378681730381646394314721568554035982246015136163461660310520762251900977381875901307708079456535587989733643796936785082178809828291491226425939241786807051633377164320039039029143029608928114564842249879888873055930755888921778285876683548773764690183111023375496380194903029954068827738630345639763420377834888303281853646307208617944105075618739859813269970125804606759852075440549635030214774541345967917085166914285509788751087482346196791787134848634068588000217521615034459776589085106851276375115956240
def ab_A2 : Nat := 80412363751524217407751071400860619821051681834330659985785811839388586268991593770924672680616161010823818018036757541144419374375670541444701589254731668226312986683783513415111680968017106193409186463377700682168844712504878772457421194547072721196964208258264417172062570640052442220129750269762412660929408399330391155008690351277554374731636461151254989121210380889963124468939786701503357797327044058817808073920262762572739312831320588241285606731205323700940913351432935134469692329344430642033067886519468174659553802231065383794783959927430273195951588451994557376940804502934706342014382402633954660813611979643166097329822874219631093715855542879108803125020848615635035936636125071027105157626014208800301236114293643372528504221958463006921049154457875250811040951285954640075915489405600956738773509754187638631873424642188189488096307730901818743037424897789452753214820095206348199069312954663020904130195502819620994886554830634112436867321625164700504241801446775709664460843192711771427827457270840289712377966731891157161287106191656725748729604229821507909470943408108311103631745201868543715343715619665621147892806832683122111338577771969444278504588344602445108485298573358963238477742656589863864175547146437414960956399061788709301467658996319193400629947925598457760751528775728502429827238110099810672244798109595818460255258438742395902218038335603170301958192704587543711492451457405138704694058450714193084749289865614556875127925252854933961590463956120199190884737256446295369426110019490774380392428357113799457387164797054579829222030728147385253454207573335452869722931256115579325179952955471557522085308269086866984858716180979071263545935899947558190994393635471642010615170163507631101149616016949291266936092915789817170653734592671526121448944061538063518443616322801315894310695523931421811679398118480736052333377224041572874623648653570110981401611324140129670008176270571961219586049634005892387961128350816173868338244572095362924324400996355484350931121631720130192449408299060646373681926265609602827632458307781560702519084968228798519715971479733466210628860455428611130020761182394503678172688927350568075181000689974102140031768743088149415267220308140109202667349972089448893090793793132728810607240730681162480438664848487321725936169156610316801193434420413281540988959458311835952379586807333049962697456659099043395316697875029519809530660557219405774637736082224981135928563521883439636368658316298008853023138971963799198206505373067830685626936596077095143252041978614570201112594072809159198900849642453073076025167728147147566188373524261186912217442604775437390311890121542280285452083659950827017816105211954979874934805873201198911940702675090241165075825544124207991523251059270331067638755778387460519914063028016875356580070242985532591688167643249791236287493528716073625201400106219675358937990002717120462250546504390627975681248316077935436686478635043576612422558079397202882075569781743442377546960058894584476573123427242258707854670522379869767998749611805740197891130961690600782890520455944460696603331158067992189301115519736502834385713035086781009957871786815597636089005968769796669956194184277651155528691927272781926407503946171836246685892403810189017392498085694468591332276372089339919
def ab_Z340 : Nat := 599118797119887302873664136237357704500019494674656446751741899394941330185925080434918354392321195408123325938531653908070694186072171558102912747876122811420319667989597010893024884895941995240712991304237739196529692247656814648157125463953609979251686694637974681008063258617895069567636830508032520262546857801235032288593882191852368648977639289351405805272422011210680690634517456709266888709644964415528204201270190559555064224381512679855895146673251473409106603916933258462987857079687748575951991485691166453014896338123833654436952062549683519101715487887195976869428221552512747315369127970924884706396139475478403282565014754020723058128793986657797053155579915115152507952257350604528384301682350962973340816872190057463163763825251019647349762211319052855057410635234553440517418805265722132052253185037802367718688202645228721836821610791661615202855920892468724655600254464161318081244256111448247089905796718545735155015745760621558400046067588890165834206363386142868290382966640715143491183811826835717339282119291676407069481159164511548833365813934110073511173302648213309376978164376814205672144046969334285438189662830830375843508564404338625196646616878374122574281035171282648587893589184199819176633837985708975585526966241757973920195733525863928528789705646265953493864835227125340806856954058809938997073825197683437186022529908881673499811521162276353865974827425801267319149344180112078306050070203296700582844866831218370334743345255768593015527648527052428585487992921810200848582034407211324601580504542846438306782290507457567898672622341595442008667642588226260091906348441229097437483021299722256014584740472667822374949982800012757063652615333910045472903402471744566781579018078378701560756122084295092518951776426155755072628091747997564394824138277195663587895936247740319057431955164662205662405670549689763766736647424102776283880372378421528286829664731846441080947628068282096968599709643531661151230670236205124797320202634419717990847325334166515784503992551302353933604939078905017184568029599938456140165726307308527093309866730309793589961227811516948324553250853969507092759782227833906620420370702716645831535935559185343296117148625738202936801906725312371793878117733243087571985299698745560539344186347836401172708357294892498846187152154070167676292115257836136776941059544556616927866985584226676474844252675752418772029390664030559574080602329783200824282076770622452067679107219710896247129407833630651602247137216076685209150118588803925458747609053208964679641589528304941677055180652988132120644523504981114165328461949598761672693028754149387844798409277424984560623698486487969506243692706416407446894562852303485445307668826099010492500299126098479447863182820661875405688463681090452260432632575552922968177846405309163130869097365876004598533858487994919956140281193939560315037021123513387781064593098862895271921512928771186289559003792704198380512299347926808208870767475516014076954039383783896134544857529595631034947775390790033952956180561153989341207144472272989464693145412645658486272631092988453595370831366568145565391052587518174552736472452219566608791756693339800641902021921506481241940301082284502144582625445562567714240082152797151814662894513702346986032909235997647569130881040
def ab_Z12 : Nat := 146783911457540369325784270402063171212407527384314377343162678138142038714628994580650994241891811717021712
def ab_T12 : Nat := 19701003102784236839187656591502565352604343735620458564733970994096694577565544015539289208087801390462433111310336
noncomputable def ab_k1 (R : Nat) : Bool := Nat.beq R 17
set_option maxRecDepth 1000000 in
theorem ab_tail : bz_lawOf_1224 ab_k1 200 16 2147483648 2147483648 2147483648 2147483648 ab_A2 4095 0 0 0 ab_T12 ab_T12 ab_T12 ab_T12 ab_T12 ab_T12 ab_T12 ab_T12 = true := by decide +kernel
end
section
noncomputable def ab_fit (A B n : Nat) : Bool := Nat.rec true (fun m r => ab_ite (Nat.beq (ab_get B m) 2147483648) r (ab_ite (Nat.beq (ab_get A m) (ab_get B m)) r false)) n
noncomputable def ab_all (n : Nat) (f : Nat → Bool) : Bool := Nat.rec true (fun m r => ab_ite (f m) r false) n
theorem ab_allS {n : Nat} {f : Nat → Bool} (h : ab_all n f = true) : ∀ m, m < n → f m = true := by
  induction n with
  | zero => intro m hm; exact absurd hm (by omega)
  | succ n ih =>
    obtain ⟨h1, h2⟩ := ab_itT (show ab_ite (f n) (ab_all n f) false = true from h)
    intro m hm
    by_cases hz : m = n
    · rw [hz]
      exact h1
    · exact ih h2 m (by omega)
noncomputable def ab_cutB (P C G W A M F S N B6 B7 B8 B9 B10 B11 B12 B13 : Nat) : Bool := ab_ite (Nat.beq M 4095) (ab_ite (Nat.beq F 0) (ab_fit A ab_A2 340) false) false
/-- the law from wL_lawOf_628 on, up to its last loop -/
noncomputable def ab_B (X6 X7 X8 X10 Z : Nat) : Bool := bz_lawOf_628 ab_k1 ab_cutB X6 X7 X8 X10 Z Z 2147483648 2147483648 2147483648 2147483648 ab_A2 4095 0 0 0 ab_T12 ab_T12 ab_T12 ab_T12 ab_T12 ab_T12 ab_T12 ab_T12
set_option maxRecDepth 1000000 in
theorem ab_mk0 : ab_all 144 (fun i => ab_B 16 (Nat.add i 16) 1073741824 17 28) = true := by decide +kernel
set_option maxRecDepth 1000000 in
theorem ab_mk1 : ab_all 144 (fun i => ab_B 17 (Nat.add i 16) 1073741824 17 28) = true := by decide +kernel
set_option maxRecDepth 1000000 in
theorem ab_mk2 : ab_all 144 (fun i => ab_B 18 (Nat.add i 16) 1073741824 17 28) = true := by decide +kernel
set_option maxRecDepth 1000000 in
theorem ab_mk3 : ab_all 144 (fun i => ab_B 19 (Nat.add i 16) 1073741824 17 28) = true := by decide +kernel
end
section
set_option maxRecDepth 1000000 in
theorem ab_nm8 : ab_all 144 (fun i => ab_B 1073741832 (Nat.add i 16) 2147483648 16 15) = true := by decide +kernel
set_option maxRecDepth 1000000 in
theorem ab_nm9 : ab_all 144 (fun i => ab_B 1073741833 (Nat.add i 16) 2147483648 16 15) = true := by decide +kernel
set_option maxRecDepth 1000000 in
theorem ab_nm4 : ab_all 144 (fun i => ab_B 20 (Nat.add i 16) 2147483648 17 28) = true := by decide +kernel
set_option maxRecDepth 1000000 in
theorem ab_nmA : ab_all 144 (fun i => ab_B 1073741838 (Nat.add i 16) 1073741839 17 28) = true := by decide +kernel
set_option maxRecDepth 1000000 in
theorem ab_nmB : ab_all 144 (fun i => ab_B 1073741838 (Nat.add i 16) 1073741840 17 28) = true := by decide +kernel
set_option maxRecDepth 1000000 in
theorem ab_ne0 : ab_B 2147483648 1073741841 2147483648 2147483648 28 = true := by decide +kernel
set_option maxRecDepth 1000000 in
theorem ab_ne1 : ab_B 2147483648 1073741841 2147483648 2147483648 15 = true := by decide +kernel
set_option maxRecDepth 1000000 in
theorem ab_ne2 : ab_B 2147483648 1073741842 2147483648 2147483648 28 = true := by decide +kernel
set_option maxRecDepth 1000000 in
theorem ab_ne3 : ab_B 2147483648 1073741842 2147483648 2147483648 15 = true := by decide +kernel
end
section
noncomputable def ab_cutA (tc ac zc X6 X7 X8 X10 Z0 Z1 P C G W A M F S N B6 B7 B8 B9 B10 B11 B12 B13 : Nat) : Bool :=
  ab_ite (Nat.beq X6 tc) (ab_ite (Nat.beq X7 1073741836) (ab_ite (Nat.beq X8 1073741837) (ab_ite (Nat.beq X10 ac) (ab_ite (Nat.beq Z0 zc) (ab_ite (Nat.beq Z1 zc) (ab_cutB P C G W A M F S N B6 B7 B8 B9 B10 B11 B12 B13) false) false) false) false) false) false
/-- the law from wL_lawOf_117 on, up to wL_lawOf_628 -/
noncomputable def ab_PA (lab gd tc ac zc : Nat) : Bool := bz_lawOf_117 ab_k1 (ab_cutA tc ac zc) 1073741826 1073741827 1073741825 lab tc 1073741836 1073741837 gd ac 16 16 16 16 ab_A0 0 0 0 0 ab_Z12 ab_Z12 ab_Z12 ab_Z12 ab_Z12 ab_Z12 ab_Z12 ab_Z12
set_option maxRecDepth 1000000 in
theorem ab_a00 : ab_PA 1073741829 17 1073741828 17 28 = true := by decide +kernel
set_option maxRecDepth 1000000 in
theorem ab_a01 : ab_PA 1073741829 17 1073741832 16 15 = true := by decide +kernel
set_option maxRecDepth 1000000 in
theorem ab_a02 : ab_PA 1073741829 17 1073741833 16 15 = true := by decide +kernel
set_option maxRecDepth 1000000 in
theorem ab_a10 : ab_PA 1073741834 16 1073741828 17 28 = true := by decide +kernel
set_option maxRecDepth 1000000 in
theorem ab_a11 : ab_PA 1073741834 16 1073741832 16 15 = true := by decide +kernel
set_option maxRecDepth 1000000 in
theorem ab_a12 : ab_PA 1073741834 16 1073741833 16 15 = true := by decide +kernel
set_option maxRecDepth 1000000 in
theorem ab_a20 : ab_PA 1073741835 16 1073741828 17 28 = true := by decide +kernel
set_option maxRecDepth 1000000 in
theorem ab_a21 : ab_PA 1073741835 16 1073741832 16 15 = true := by decide +kernel
set_option maxRecDepth 1000000 in
theorem ab_a22 : ab_PA 1073741835 16 1073741833 16 15 = true := by decide +kernel
end
section
noncomputable def ab_i12 (n : Nat) : Nat := Nat.rec ab_Z340 (fun i r => ab_set r (Nat.add 21 (Nat.mul 7 i)) (ab_cut (ab_ite (Nat.ble 11 i) 15 (Nat.add i 17)))) n
noncomputable def ab_i24 (n : Nat) : Nat := Nat.rec (ab_i12 12) (fun i r => ab_set r (Nat.add 105 (Nat.mul 10 i)) (ab_cut (ab_ite (Nat.ble 23 i) 15 (Nat.add i 17)))) n
theorem ab_i24E : ab_i24 24 = ab_A0 := by decide +kernel
theorem ab_zall : ab_all 340 (fun j => Nat.beq (ab_get ab_Z340 j) 16) = true := by decide +kernel
theorem ab_zall12 : ab_all 12 (fun j => Nat.beq (ab_get ab_Z12 j) 16) = true := by decide +kernel
theorem ab_tall12 : ab_all 12 (fun j => Nat.beq (ab_get ab_T12 j) 2147483648) = true := by decide +kernel
theorem ab_z340 {e : Nat → Int32} : ab_ra e 340 ab_Z340 (fun _ => 0) := by
  intro j hj
  rw [ab_qt (ab_allS ab_zall j hj)]
  exact ab_l0
theorem ab_z12 {e : Nat → Int32} : ab_ra e 12 ab_Z12 (fun _ => 0) := by
  intro j hj
  rw [ab_qt (ab_allS ab_zall12 j hj)]
  exact ab_l0
theorem ab_t12 {e : Nat → Int32} {a : Nat → Int32} : ab_ra e 12 ab_T12 a := by
  intro j hj
  rw [ab_qt (ab_allS ab_tall12 j hj)]
  exact ab_unk
theorem hq_n5 (r : Nat) : (16 : Int32) + 7 * nI r + 5 = nI (21 + 7 * r) := by
  rw [hq_na, show (5 : Int32) = nI 5 from rfl, nI_add]
  congr 1
  omega
theorem hq_a5 (r : Nat) : (100 : Int32) + 10 * nI r + 5 = nI (105 + 10 * r) := by
  rw [hq_na0, show (5 : Int32) = nI 5 from rfl, nI_add]
  congr 1
  omega
theorem hq_init153 {post : St2 → Prop} {mc ms : Nat} {z : Nat → Int32} {s : Nat → Int32} (hs : ∀ e, ab_ra e 340 (ab_i24 0) s)
    (H : ∀ a1, (∀ e, ab_ra e 340 ab_A0 a1) → post (0, 0, 0, 0, 0, a1, z, z, z, z, z, z, z, z, z, z, z, z)) :
    ∃ n, wX_init_153 post mc ms 13 4520 0 0 0 0 0 n 0 s z z z z z z z z z z z z := by
  refine pk_loop (fun n i s => wX_init_153 post mc ms 13 4520 0 0 0 0 0 n (nI i) s z z z z z z z z z z z z) (fun i s => ∀ e, ab_ra e 340 (ab_i24 i) s) 24 0 s (by omega) hs ?_ ?_
  · intro n s h
    refine pk_le 24 24 (fun _ => H s ?_) (fun z => absurd z (by omega))
    rw [← ab_i24E]
    exact h
  · intro n i s hi h hw
    refine pk_le 24 i (fun z => absurd z (by omega)) (fun _ => ?_)
    show (24 ≤ nI i + 1 → vp_in ((100 : Int32) + 10 * nI i + 5) 340 ∧ _) ∧ _
    rw [hq_a5, nI_1, nI_clamp (show 105 + 10 * i < 2 ^ 31 by omega)]
    refine pk_le 24 (i + 1) (fun w => ⟨vp_in_nI (by omega) (by omega), nm_e (nm_e (hw _ ?_))⟩) (fun w => ⟨vp_in_nI (by omega) (by omega), nm_e (nm_e (hw _ ?_))⟩)
    · intro e
      have : Nat.ble 23 i = true := Nat.ble_eq_true_of_le (by omega)
      show ab_ra e 340 (ab_set (ab_i24 i) (105 + 10 * i) (ab_cut (ab_ite (Nat.ble 23 i) 15 (Nat.add i 17)))) _
      rw [this]
      exact ab_setS (h e) ab_m1
    · intro e
      have : Nat.ble 23 i = false := by rw [ab_ble]; exact decide_eq_false (by omega)
      show ab_ra e 340 (ab_set (ab_i24 i) (105 + 10 * i) (ab_cut (ab_ite (Nat.ble 23 i) 15 (Nat.add i 17)))) _
      rw [this]
      exact ab_setS (h e) (show ab_rv e (i + 1 + 16) (nI (i + 1)) from ab_ofn (by omega))
theorem hq_init113 {post : St2 → Prop} {mc ms : Nat} {z : Nat → Int32} {s : Nat → Int32} (hs : ∀ e, ab_ra e 340 (ab_i12 0) s)
    (H : ∀ a1, (∀ e, ab_ra e 340 ab_A0 a1) → post (0, 0, 0, 0, 0, a1, z, z, z, z, z, z, z, z, z, z, z, z)) :
    ∃ n, wX_init_113 post mc ms 13 4520 0 0 0 0 0 n 0 s z z z z z z z z z z z z := by
  refine pk_loop (fun n i s => wX_init_113 post mc ms 13 4520 0 0 0 0 0 n (nI i) s z z z z z z z z z z z z) (fun i s => ∀ e, ab_ra e 340 (ab_i12 i) s) 12 0 s (by omega) hs ?_ ?_
  · intro n s h
    exact pk_le 12 12 (fun _ => hq_init153 h H) (fun z => absurd z (by omega))
  · intro n i s hi h hw
    refine pk_le 12 i (fun z => absurd z (by omega)) (fun _ => ?_)
    show (12 ≤ nI i + 1 → vp_in ((16 : Int32) + 7 * nI i + 5) 340 ∧ _) ∧ _
    rw [hq_n5, nI_1, nI_clamp (show 21 + 7 * i < 2 ^ 31 by omega)]
    refine pk_le 12 (i + 1) (fun w => ⟨vp_in_nI (by omega) (by omega), nm_e (nm_e (hw _ ?_))⟩) (fun w => ⟨vp_in_nI (by omega) (by omega), nm_e (nm_e (hw _ ?_))⟩)
    · intro e
      have : Nat.ble 11 i = true := Nat.ble_eq_true_of_le (by omega)
      show ab_ra e 340 (ab_set (ab_i12 i) (21 + 7 * i) (ab_cut (ab_ite (Nat.ble 11 i) 15 (Nat.add i 17)))) _
      rw [this]
      exact ab_setS (h e) ab_m1
    · intro e
      have : Nat.ble 11 i = false := by rw [ab_ble]; exact decide_eq_false (by omega)
      show ab_ra e 340 (ab_set (ab_i12 i) (21 + 7 * i) (ab_cut (ab_ite (Nat.ble 11 i) 15 (Nat.add i 17)))) _
      rw [this]
      exact ab_setS (h e) (show ab_rv e (i + 1 + 16) (nI (i + 1)) from ab_ofn (by omega))
theorem hq_init {post : St2 → Prop} (H : ∀ a1, (∀ e, ab_rg e ab_A0 0 0 0 0 0 a1 (fun _ => 0) (fun _ => 0) (fun _ => 0) (fun _ => 0)) → post (0, 0, 0, 0, 0, a1, fun _ => 0, fun _ => 0, fun _ => 0, fun _ => 0, fun _ => 0, fun _ => 0, fun _ => 0, fun _ => 0, fun _ => 0, fun _ => 0, fun _ => 0, fun _ => 0)) :
    wpX_init post 1000 20000 (0, 0, 0, 0, 0) := by
  refine ⟨by omega, by omega, by omega, by omega, by omega, by omega, by omega, by omega, by omega, by omega, by omega, by omega, by omega, by omega, by omega, by omega, by omega, by omega, by omega, by omega, by omega, by omega, by omega, by omega, by omega, by omega, ?_⟩
  refine hq_init113 (z := fun _ => 0) (fun e => ab_z340) (fun a1 ha => H a1 (fun e => ⟨fun j hj _ => ha e j hj, ⟨0, fun _ => 0, ⟨by omega, ?_, fun k hk => absurd hk (by omega), fun j k _ hk => absurd hk (by omega)⟩, fun k hk => absurd hk (by omega), ?_⟩, a1, ⟨fun _ => ⟨rfl, fun _ _ => rfl, fun _ _ => rfl⟩, fun z => absurd rfl z⟩, fun z => absurd rfl z⟩))
  · have h := ha e 2 (by omega)
    have h2 : ab_get ab_A0 2 = 16 := by decide +kernel
    rw [h2] at h
    exact ab_nn h (by omega) (by omega)
  · intro n _ hn
    rw [Nat.zero_testBit] at hn
    exact absurd hn (by decide)
end
section
def ab_env (x0 x1 x3 x5 x6 x7 x8 : Int32) (q : Nat) : Int32 := match q with
  | 0 => x8 | 1 => x3 | 2 => x0 | 3 => x1 | 4 => x6 | 5 => x5 | 8 => x6 | 9 => x6 | 10 => x5 | 11 => x5 | 12 => x7 | 13 => x8 | 14 => x6 | 15 => x8 | 16 => x8 | 17 => x7 | 18 => x7 | _ => 0
theorem ab_sym {e : Nat → Int32} {n : Nat} {v : Int32} (q : Nat) (hn : n = 1073741824 + q) (hq : q < 100) (hv : v = ab_sy e q) (h1 : (ab_slo q : Int) ≤ v.toInt + 2147483648) (h2 : v.toInt + 2147483648 ≤ (ab_shi q : Int)) : ab_rv e n v := by
  subst hn
  refine ⟨fun h => absurd h (by omega), fun _ _ => ?_⟩
  rw [show 1073741824 + q - 1073741824 = q by omega]
  exact ⟨hv, h1, h2⟩
theorem ab_any {e : Nat → Int32} {n : Nat} {v : Int32} (q : Nat) (hn : n = 1073741824 + q) (hq : q < 100) (hv : v = ab_sy e q) (h1 : ab_slo q = 0) (h2 : ab_shi q = 4294967295) : ab_rv e n v := by
  have hl := Int32.le_toInt v
  have hh := Int32.toInt_lt v
  refine ab_sym q hn hq hv ?_ ?_
  · rw [h1]
    omega
  · rw [h2]
    omega
theorem ab_fitS {A B n : Nat} (h : ab_fit A B n = true) : ∀ j, j < n → ab_get B j = 2147483648 ∨ ab_get A j = ab_get B j := by
  induction n with
  | zero => intro j hj; exact absurd hj (by omega)
  | succ n ih =>
    have h : ab_ite (Nat.beq (ab_get B n) 2147483648) (ab_fit A B n) (ab_ite (Nat.beq (ab_get A n) (ab_get B n)) (ab_fit A B n) false) = true := h
    have hh : (ab_get B n = 2147483648 ∨ ab_get A n = ab_get B n) ∧ ab_fit A B n = true := by
      cases h1 : Nat.beq (ab_get B n) 2147483648
      · rw [h1] at h
        obtain ⟨h2, h3⟩ := ab_itT h
        exact ⟨Or.inr (ab_qt h2), h3⟩
      · rw [h1] at h
        exact ⟨Or.inl (ab_qt h1), h⟩
    intro j hj
    by_cases hz : j = n
    · rw [hz]
      exact hh.1
    · exact ih hh.2 j (by omega)
theorem ab_cutBS {e : Nat → Int32} {A M F S N P C G W B6 B7 B8 B9 B10 B11 B12 B13 : Nat} {op : Int32} {a1 a2 a3 a4 a5 : Nat → Int32} (h : ab_cutB P C G W A M F S N B6 B7 B8 B9 B10 B11 B12 B13 = true) (hg : ab_rg e A M F S N op a1 a2 a3 a4 a5) : ab_rg e ab_A2 4095 0 0 0 op a1 a2 a3 a4 a5 := by
  obtain ⟨h1, h⟩ := ab_itT h
  obtain ⟨h2, h⟩ := ab_itT h
  have h1 := ab_qt h1
  have h2 := ab_qt h2
  obtain ⟨g1, g2, og, g3, g4⟩ := hg
  rw [h1] at g2
  rw [h2] at g3
  refine ⟨?_, g2, og, g3, fun z => absurd rfl z⟩
  intro j hj hj2
  rcases ab_fitS h j hj with z | z
  · rw [z]
    exact ab_unk
  · rw [← z]
    exact g1 j hj hj2
theorem ab_kS {e : Nat → Int32} : ∀ ⦃R : Nat⦄ ⦃r : Int32⦄, ab_k1 R = true → ab_rv e R r → (fun (r : Int32) (_ : St0) => r = 1) r () := by
  intro R r h hr
  have h := ab_qt (show Nat.beq R 17 = true from h)
  rw [h] at hr
  exact hr.1 (by omega)
theorem ab_628 {e : Nat → Int32} {mc ms kc ks X6 X7 X8 X10 Z : Nat} {x6 x7 x8 x10 z0 z1 : Int32} {op pi cl gr wr : Int32} {a1 a2 a3 a4 a5 a6 a7 a8 a9 a10 a11 a12 a13 : Nat → Int32} (hB : ab_B X6 X7 X8 X10 Z = true) (h6 : ab_rv e X6 x6) (h7 : ab_rv e X7 x7) (h8 : ab_rv e X8 x8) (h10 : ab_rv e X10 x10) (hz0 : ab_rv e Z z0) (hz1 : ab_rv e Z z1)
    (hg : ab_rg e ab_A2 4095 0 0 0 op a1 a2 a3 a4 a5) : wL_lawOf_628 (fun r _ => r = 1) mc ms x6 x7 x8 x10 z0 z1 kc ks op pi cl gr wr a1 a2 a3 a4 a5 a6 a7 a8 a9 a10 a11 a12 a13 := by
  refine sz_lawOf_628 (e := e) hB ab_kS ?_ h6 h7 h8 h10 hz0 hz1 ab_unk ab_unk ab_unk ab_unk hg ab_t12 ab_t12 ab_t12 ab_t12 ab_t12 ab_t12 ab_t12 ab_t12
  intro P C G W A M F S N B6 B7 B8 B9 B10 B11 B12 B13 op pi cl gr wr a1 a2 a3 a4 a5 a6 a7 a8 a9 a10 a11 a12 a13 hc _ _ _ _ hg _ _ _ _ _ _ _ _
  exact ⟨200, sz_lawOf_1224 (e := e) ab_kS 200 ab_tail ab_l0 ab_unk ab_unk ab_unk ab_unk (ab_cutBS hc hg) ab_t12 ab_t12 ab_t12 ab_t12 ab_t12 ab_t12 ab_t12 ab_t12⟩
/-- what type, the answer of the first two tests of it, and of rounds, are together -/
def ab_ty (x6 x10 z : Int32) : Prop := (x10 = 1 ∧ z = 12 ∧ ¬ x6 < 0 ∧ ¬ 5 ≤ x6) ∨ (x10 = 0 ∧ z = -1 ∧ (x6 < 0 ∨ 5 ≤ x6))
theorem ab_lt0 {x : Int32} : x < 0 ↔ x.toInt < 0 := Int32.lt_iff_toInt_lt
theorem ab_le5 {x : Int32} : 5 ≤ x ↔ 5 ≤ x.toInt := Int32.le_iff_toInt_le
theorem ab_le8 {x : Int32} : 8 ≤ x ↔ 8 ≤ x.toInt := Int32.le_iff_toInt_le
theorem ab_le100 {x : Int32} : 100 ≤ x ↔ 100 ≤ x.toInt := Int32.le_iff_toInt_le
theorem ab_le144 {x : Int32} : nI 144 ≤ x ↔ 144 ≤ x.toInt := Int32.le_iff_toInt_le
theorem ab_back {x0 x1 x3 x5 x6 x7 x8 x10 z0 z1 : Int32} {mc ms kc ks : Nat} {op pi cl gr wr : Int32} {a1 a2 a3 a4 a5 a6 a7 a8 a9 a10 a11 a12 a13 : Nat → Int32} (ht : ab_ty x6 x10 z0) (hz : z1 = z0) (hg : ab_rg (ab_env x0 x1 x3 x5 x6 x7 x8) ab_A2 4095 0 0 0 op a1 a2 a3 a4 a5) :
    wL_lawOf_628 (fun r _ => r = 1) mc ms x6 x7 x8 x10 z0 z1 kc ks op pi cl gr wr a1 a2 a3 a4 a5 a6 a7 a8 a9 a10 a11 a12 a13 := by
  subst hz
  have b6 := And.intro (Int32.le_toInt x6) (Int32.toInt_lt x6)
  have b7 := And.intro (Int32.le_toInt x7) (Int32.toInt_lt x7)
  have b8 := And.intro (Int32.le_toInt x8) (Int32.toInt_lt x8)
  rcases pk_ix x7 (n := 144) (by omega) with h7 | h7 | ⟨j, hj, h7⟩
  · have h7 := ab_lt0.mp h7
    have s7 : ab_rv (ab_env x0 x1 x3 x5 x6 x7 x8) 1073741841 x7 := ab_sym 17 rfl (by omega) rfl (show (0 : Int) ≤ _ by omega) (show _ ≤ (2147483647 : Int) by omega)
    rcases ht with ⟨_, e2, _, _⟩ | ⟨_, e2, _⟩
    · subst e2
      exact ab_628 ab_ne0 ab_unk s7 ab_unk ab_unk ab_l12 ab_l12 hg
    · subst e2
      exact ab_628 ab_ne1 ab_unk s7 ab_unk ab_unk ab_m1 ab_m1 hg
  · have h7 := ab_le144.mp h7
    have s7 : ab_rv (ab_env x0 x1 x3 x5 x6 x7 x8) 1073741842 x7 := ab_sym 18 rfl (by omega) rfl (show (2147483792 : Int) ≤ _ by omega) (show _ ≤ (4294967295 : Int) by omega)
    rcases ht with ⟨_, e2, _, _⟩ | ⟨_, e2, _⟩
    · subst e2
      exact ab_628 ab_ne2 ab_unk s7 ab_unk ab_unk ab_l12 ab_l12 hg
    · subst e2
      exact ab_628 ab_ne3 ab_unk s7 ab_unk ab_unk ab_m1 ab_m1 hg
  · have s7 : ab_rv (ab_env x0 x1 x3 x5 x6 x7 x8) (j + 16) x7 := by
      rw [h7]
      exact ab_ofn (by omega)
    rcases ht with ⟨e1, e2, e3, e4⟩ | ⟨e1, e2, e3⟩
    · subst e1
      subst e2
      have e3 : ¬ x6.toInt < 0 := fun z => e3 (ab_lt0.mpr z)
      have e4 : ¬ 5 ≤ x6.toInt := fun z => e4 (ab_le5.mpr z)
      by_cases t4 : x6.toInt = 4
      · have t4 : x6 = 4 := Int32.toInt_inj.mp t4
        have s6 : ab_rv (ab_env x0 x1 x3 x5 x6 x7 x8) 20 x6 := by
          have : ∀ e : Nat → Int32, ab_rv e 20 x6 := fun e => t4 ▸ ab_l4
          exact this _
        exact ab_628 (ab_allS ab_nm4 j hj) s6 s7 ab_unk ab_l1 ab_l12 ab_l12 hg
      · have s14 : ab_rv (ab_env x0 x1 x3 x5 x6 x7 x8) 1073741838 x6 := ab_sym 14 rfl (by omega) rfl (show (2147483648 : Int) ≤ _ by omega) (show _ ≤ (2147483651 : Int) by omega)
        by_cases w0 : x8.toInt < 0
        · have s8 : ab_rv (ab_env x0 x1 x3 x5 x6 x7 x8) 1073741839 x8 := ab_sym 15 rfl (by omega) rfl (show (0 : Int) ≤ _ by omega) (show _ ≤ (2147483647 : Int) by omega)
          exact ab_628 (ab_allS ab_nmA j hj) s14 s7 s8 ab_l1 ab_l12 ab_l12 hg
        · by_cases w1 : 100 ≤ x8.toInt
          · have s8 : ab_rv (ab_env x0 x1 x3 x5 x6 x7 x8) 1073741840 x8 := ab_sym 16 rfl (by omega) rfl (show (2147483748 : Int) ≤ _ by omega) (show _ ≤ (4294967295 : Int) by omega)
            exact ab_628 (ab_allS ab_nmB j hj) s14 s7 s8 ab_l1 ab_l12 ab_l12 hg
          · have s8 : ab_rv (ab_env x0 x1 x3 x5 x6 x7 x8) 1073741824 x8 := ab_sym 0 rfl (by omega) rfl (show (2147483648 : Int) ≤ _ by omega) (show _ ≤ (2147483747 : Int) by omega)
            have tt : ∀ (t : Int32), x6 = t → ∀ (n : Nat), (∀ e : Nat → Int32, ab_rv e n t) → ab_rv (ab_env x0 x1 x3 x5 x6 x7 x8) n x6 := by
              intro t e n h
              have := h (ab_env x0 x1 x3 x5 x6 x7 x8)
              rw [← e] at this
              exact this
            by_cases q0 : x6.toInt = 0
            · exact ab_628 (ab_allS ab_mk0 j hj) (tt 0 (Int32.toInt_inj.mp q0) 16 (fun _ => ab_l0)) s7 s8 ab_l1 ab_l12 ab_l12 hg
            · by_cases q1 : x6.toInt = 1
              · exact ab_628 (ab_allS ab_mk1 j hj) (tt 1 (Int32.toInt_inj.mp q1) 17 (fun _ => ab_l1)) s7 s8 ab_l1 ab_l12 ab_l12 hg
              · by_cases q2 : x6.toInt = 2
                · exact ab_628 (ab_allS ab_mk2 j hj) (tt 2 (Int32.toInt_inj.mp q2) 18 (fun _ => ab_l2)) s7 s8 ab_l1 ab_l12 ab_l12 hg
                · have q3 : x6.toInt = 3 := by omega
                  exact ab_628 (ab_allS ab_mk3 j hj) (tt 3 (Int32.toInt_inj.mp q3) 19 (fun _ => ab_l3)) s7 s8 ab_l1 ab_l12 ab_l12 hg
    · subst e1
      subst e2
      rcases e3 with e3 | e3
      · have e3 := ab_lt0.mp e3
        have s6 : ab_rv (ab_env x0 x1 x3 x5 x6 x7 x8) 1073741832 x6 := ab_sym 8 rfl (by omega) rfl (show (0 : Int) ≤ _ by omega) (show _ ≤ (2147483647 : Int) by omega)
        exact ab_628 (ab_allS ab_nm8 j hj) s6 s7 ab_unk ab_l0 ab_m1 ab_m1 hg
      · have e3 := ab_le5.mp e3
        have s6 : ab_rv (ab_env x0 x1 x3 x5 x6 x7 x8) 1073741833 x6 := ab_sym 9 rfl (by omega) rfl (show (2147483653 : Int) ≤ _ by omega) (show _ ≤ (4294967295 : Int) by omega)
        exact ab_628 (ab_allS ab_nm9 j hj) s6 s7 ab_unk ab_l0 ab_m1 ab_m1 hg
theorem ab_117 {x0 x1 x3 x5 x6 x7 x8 x9 x10 z : Int32} {mc ms kc ks lab gd tc ac zc : Nat} {a1 : Nat → Int32} (hP : ab_PA lab gd tc ac zc = true) (ht : ab_ty x6 x10 z) (htc : tc < 2147483648) (hac : ac < 2147483648) (hzc : zc < 2147483648)
    (h5 : ab_rv (ab_env x0 x1 x3 x5 x6 x7 x8) lab x5) (h6 : ab_rv (ab_env x0 x1 x3 x5 x6 x7 x8) tc x6) (h9 : ab_rv (ab_env x0 x1 x3 x5 x6 x7 x8) gd x9) (h10 : ab_rv (ab_env x0 x1 x3 x5 x6 x7 x8) ac x10) (hz : ab_rv (ab_env x0 x1 x3 x5 x6 x7 x8) zc z)
    (hg : ab_rg (ab_env x0 x1 x3 x5 x6 x7 x8) ab_A0 0 0 0 0 0 a1 (fun _ => 0) (fun _ => 0) (fun _ => 0) (fun _ => 0)) :
    wL_lawOf_117 (fun r _ => r = 1) mc ms x0 x1 x3 x5 x6 x7 x8 x9 x10 kc ks 0 0 0 0 0 a1 (fun _ => 0) (fun _ => 0) (fun _ => 0) (fun _ => 0) (fun _ => 0) (fun _ => 0) (fun _ => 0) (fun _ => 0) (fun _ => 0) (fun _ => 0) (fun _ => 0) (fun _ => 0) := by
  have v7 : ab_rv (ab_env x0 x1 x3 x5 x6 x7 x8) 1073741836 x7 := ab_any 12 rfl (by omega) rfl rfl rfl
  have v8 : ab_rv (ab_env x0 x1 x3 x5 x6 x7 x8) 1073741837 x8 := ab_any 13 rfl (by omega) rfl rfl rfl
  refine sz_lawOf_117 (e := ab_env x0 x1 x3 x5 x6 x7 x8) hP ab_kS ?_ (ab_any 2 rfl (by omega) rfl rfl rfl) (ab_any 3 rfl (by omega) rfl rfl rfl) (ab_any 1 rfl (by omega) rfl rfl rfl) h5 h6 v7 v8 h9 h10 ab_l0 ab_l0 ab_l0 ab_l0 hg ab_z12 ab_z12 ab_z12 ab_z12 ab_z12 ab_z12 ab_z12 ab_z12
  intro X6 X7 X8 X10 Z0 Z1 P C G W A M F S N B6 B7 B8 B9 B10 B11 B12 B13 y6 y7 y8 y10 z0 z1 op pi cl gr wr a1 a2 a3 a4 a5 a6 a7 a8 a9 a10 a11 a12 a13 hc g6 g7 g8 g10 gz0 gz1 _ _ _ _ hg _ _ _ _ _ _ _ _
  obtain ⟨c1, hc⟩ := ab_itT hc
  obtain ⟨c2, hc⟩ := ab_itT hc
  obtain ⟨c3, hc⟩ := ab_itT hc
  obtain ⟨c4, hc⟩ := ab_itT hc
  obtain ⟨c5, hc⟩ := ab_itT hc
  obtain ⟨c6, hc⟩ := ab_itT hc
  rw [ab_qt c1] at g6
  rw [ab_qt c2] at g7
  rw [ab_qt c3] at g8
  rw [ab_qt c4] at g10
  rw [ab_qt c5] at gz0
  rw [ab_qt c6] at gz1
  rw [ab_rvU g6 h6 htc, ab_rvU g7 v7 (by omega), ab_rvU g8 v8 (by omega), ab_rvU g10 h10 hac, ab_rvU gz0 hz hzc, ab_rvU gz1 hz hzc]
  have hg2 := ab_cutBS hc hg
  exact ab_back (x0 := x0) (x1 := x1) (x3 := x3) (x5 := x5) ht rfl hg2
theorem ab_99 {x0 x1 x3 x5 x6 x7 x8 x9 : Int32} {mc ms kc ks : Nat} {a1 : Nat → Int32} (h9 : (x9 = 1 ∧ ¬ x5 < 0 ∧ ¬ 8 ≤ x5) ∨ (x9 = 0 ∧ (x5 < 0 ∨ 8 ≤ x5)))
    (hg : ab_rg (ab_env x0 x1 x3 x5 x6 x7 x8) ab_A0 0 0 0 0 0 a1 (fun _ => 0) (fun _ => 0) (fun _ => 0) (fun _ => 0)) :
    wL_lawOf_99 (fun r _ => r = 1) mc ms x0 x1 x3 x5 x6 x7 x8 x9 kc ks 0 0 0 0 0 a1 (fun _ => 0) (fun _ => 0) (fun _ => 0) (fun _ => 0) (fun _ => 0) (fun _ => 0) (fun _ => 0) (fun _ => 0) (fun _ => 0) (fun _ => 0) (fun _ => 0) (fun _ => 0) := by
  have b5 := And.intro (Int32.le_toInt x5) (Int32.toInt_lt x5)
  have b6 := And.intro (Int32.le_toInt x6) (Int32.toInt_lt x6)
  have go : ∀ (x10 z : Int32) (tc ac zc : Nat), ab_PA 1073741829 17 tc ac zc = true → ab_PA 1073741834 16 tc ac zc = true → ab_PA 1073741835 16 tc ac zc = true → ab_ty x6 x10 z → tc < 2147483648 → ac < 2147483648 → zc < 2147483648 →
      ab_rv (ab_env x0 x1 x3 x5 x6 x7 x8) tc x6 → ab_rv (ab_env x0 x1 x3 x5 x6 x7 x8) ac x10 → ab_rv (ab_env x0 x1 x3 x5 x6 x7 x8) zc z →
      wL_lawOf_117 (fun r _ => r = 1) mc ms x0 x1 x3 x5 x6 x7 x8 x9 x10 kc ks 0 0 0 0 0 a1 (fun _ => 0) (fun _ => 0) (fun _ => 0) (fun _ => 0) (fun _ => 0) (fun _ => 0) (fun _ => 0) (fun _ => 0) (fun _ => 0) (fun _ => 0) (fun _ => 0) (fun _ => 0) := by
    intro x10 z tc ac zc p0 p1 p2 ht l1 l2 l3 r1 r2 r3
    rcases h9 with ⟨e1, e2, e3⟩ | ⟨e1, e2⟩
    · subst e1
      have e2 : ¬ x5.toInt < 0 := fun w => e2 (ab_lt0.mpr w)
      have e3 : ¬ 8 ≤ x5.toInt := fun w => e3 (ab_le8.mpr w)
      exact ab_117 p0 ht l1 l2 l3 (ab_sym 5 rfl (by omega) rfl (show (2147483648 : Int) ≤ _ by omega) (show _ ≤ (2147483655 : Int) by omega)) r1 ab_l1 r2 r3 hg
    · subst e1
      rcases e2 with e2 | e2
      · have e2 := ab_lt0.mp e2
        exact ab_117 p1 ht l1 l2 l3 (ab_sym 10 rfl (by omega) rfl (show (0 : Int) ≤ _ by omega) (show _ ≤ (2147483647 : Int) by omega)) r1 ab_l0 r2 r3 hg
      · have e2 := ab_le8.mp e2
        exact ab_117 p2 ht l1 l2 l3 (ab_sym 11 rfl (by omega) rfl (show (2147483656 : Int) ≤ _ by omega) (show _ ≤ (4294967295 : Int) by omega)) r1 ab_l0 r2 r3 hg
  refine br_c (fun z1 => ?_) (fun z1 => br_c (fun z2 => ?_) (fun z2 => ?_))
  · have z1' := ab_lt0.mp z1
    exact go 0 (-1) 1073741832 16 15 ab_a01 ab_a11 ab_a21 (Or.inr ⟨rfl, rfl, Or.inl z1⟩) (by omega) (by omega) (by omega) (ab_sym 8 rfl (by omega) rfl (show (0 : Int) ≤ _ by omega) (show _ ≤ (2147483647 : Int) by omega)) ab_l0 ab_m1
  · have z2' := ab_le5.mp z2
    exact go 0 (-1) 1073741833 16 15 ab_a02 ab_a12 ab_a22 (Or.inr ⟨rfl, rfl, Or.inr z2⟩) (by omega) (by omega) (by omega) (ab_sym 9 rfl (by omega) rfl (show (2147483653 : Int) ≤ _ by omega) (show _ ≤ (4294967295 : Int) by omega)) ab_l0 ab_m1
  · have z1' : ¬ x6.toInt < 0 := fun w => z1 (ab_lt0.mpr w)
    have z2' : ¬ 5 ≤ x6.toInt := fun w => z2 (ab_le5.mpr w)
    exact go 1 12 1073741828 17 28 ab_a00 ab_a10 ab_a20 (Or.inl ⟨rfl, rfl, z1, z2⟩) (by omega) (by omega) (by omega) (ab_sym 4 rfl (by omega) rfl (show (2147483648 : Int) ≤ _ by omega) (show _ ≤ (2147483652 : Int) by omega)) ab_l1 ab_l12
theorem ab_80 {x0 x1 x3 x5 x6 x7 x8 : Int32} {mc ms kc ks : Nat} {a1 : Nat → Int32}
    (hg : ∀ e, ab_rg e ab_A0 0 0 0 0 0 a1 (fun _ => 0) (fun _ => 0) (fun _ => 0) (fun _ => 0)) :
    wL_lawOf_80 (fun r _ => r = 1) mc ms x0 x1 x3 x5 x6 x7 x8 kc ks 0 0 0 0 0 a1 (fun _ => 0) (fun _ => 0) (fun _ => 0) (fun _ => 0) (fun _ => 0) (fun _ => 0) (fun _ => 0) (fun _ => 0) (fun _ => 0) (fun _ => 0) (fun _ => 0) (fun _ => 0) :=
  br_c (fun z1 => ab_99 (Or.inr ⟨rfl, Or.inl z1⟩) (hg _)) (fun z1 => br_c (fun z2 => ab_99 (Or.inr ⟨rfl, Or.inr z2⟩) (hg _)) (fun z2 => ab_99 (Or.inl ⟨rfl, z1, z2⟩) (hg _)))
theorem ab_cell {post : Int32 → Prop} {L : Nat} {xs : Nat → Int32} (i : Nat) (hL : L ≤ 4) (hi : i < 4) (h : ∀ v, post v) : wpL_cellAt post L xs () (nI i) :=
  br_c (fun _ => h _) (fun z => ⟨vp_in_nI (by rcases Nat.lt_or_ge i L with w | w; exact w; exact absurd (nI_le w (by omega)) z) (by omega), h _⟩)
theorem ab_lawOf (p0 p1 p2 p3 : Int32) : wpL_lawOf (fun r _ => r = 1) 1784 28528 () p0 p1 p2 p3 := by
  refine ⟨by omega, by omega, 1000, 20000, by omega, by omega, hq_init (fun a1 ha => ?_)⟩
  have h80 : ∀ {x0 x1 x3 x5 x6 x7 x8 : Int32}, wL_lawOf_80 (fun r _ => r = 1) 1784 28528 x0 x1 x3 x5 x6 x7 x8 (1 + 1000) (18 + 20000) 0 0 0 0 0 a1 (fun _ => 0) (fun _ => 0) (fun _ => 0) (fun _ => 0) (fun _ => 0) (fun _ => 0) (fun _ => 0) (fun _ => 0) (fun _ => 0) (fun _ => 0) (fun _ => 0) (fun _ => 0) := ab_80 ha
  have h62 : ∀ {x0 x1 x3 x5 x6 x7 : Int32}, wL_lawOf_62 (fun r _ => r = 1) 1784 28528 x0 x1 x3 x5 x6 x7 (1 + 1000) (18 + 20000) 0 0 0 0 0 a1 (fun _ => 0) (fun _ => 0) (fun _ => 0) (fun _ => 0) (fun _ => 0) (fun _ => 0) (fun _ => 0) (fun _ => 0) (fun _ => 0) (fun _ => 0) (fun _ => 0) (fun _ => 0) := br_c (fun _ => h80) (fun _ => h80)
  have h43 : ∀ {x0 x1 x2 x3 x5 x6 : Int32}, wL_lawOf_43 (fun r _ => r = 1) 1784 28528 x0 x1 x2 x3 x5 x6 (1 + 1000) (18 + 20000) 0 0 0 0 0 a1 (fun _ => 0) (fun _ => 0) (fun _ => 0) (fun _ => 0) (fun _ => 0) (fun _ => 0) (fun _ => 0) (fun _ => 0) (fun _ => 0) (fun _ => 0) (fun _ => 0) (fun _ => 0) := br_c (fun _ => h62) (fun _ => h62)
  have h25 : ∀ {x0 x1 x2 x3 x5 : Int32}, wL_lawOf_25 (fun r _ => r = 1) 1784 28528 x0 x1 x2 x3 x5 (1 + 1000) (18 + 20000) 0 0 0 0 0 a1 (fun _ => 0) (fun _ => 0) (fun _ => 0) (fun _ => 0) (fun _ => 0) (fun _ => 0) (fun _ => 0) (fun _ => 0) (fun _ => 0) (fun _ => 0) (fun _ => 0) (fun _ => 0) := br_c (fun _ => h43) (fun _ => h43)
  exact br_c (fun _ => h25) (fun _ => h25)
theorem i_vc (xs : Nat → Int32) (L : Nat) (hL : L ≤ 4) : wpL_law (fun r => r = 1) L xs :=
  ab_cell 0 hL (by omega) (fun r1 => ab_cell 1 hL (by omega) (fun r2 => ab_cell 2 hL (by omega) (fun r3 => ab_cell 3 hL (by omega) (fun r4 => ⟨1784, 28528, by omega, by omega, ab_lawOf r1 r2 r3 r4⟩))))
end

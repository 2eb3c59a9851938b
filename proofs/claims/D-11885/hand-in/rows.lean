section
/-! the picture of a slot: three facts, each with a flag, a cell and a measure -/
def oc_mn (x y : Int32) : Int32 := if x ≤ y then x else y
def oc_mx (x y : Int32) : Int32 := if y ≤ x then x else y
theorem oc_mn_i (x y : Int32) : (oc_mn x y).toInt = min x.toInt y.toInt := by
  unfold oc_mn
  by_cases h : x ≤ y
  · rw [if_pos h]
    rw [Int32.le_iff_toInt_le] at h
    omega
  · rw [if_neg h]
    rw [Int32.le_iff_toInt_le] at h
    omega
theorem oc_mx_i (x y : Int32) : (oc_mx x y).toInt = max x.toInt y.toInt := by
  unfold oc_mx
  by_cases h : y ≤ x
  · rw [if_pos h]
    rw [Int32.le_iff_toInt_le] at h
    omega
  · rw [if_neg h]
    rw [Int32.le_iff_toInt_le] at h
    omega
theorem oc_mn_c (x y : Int32) : oc_mn x y = oc_mn y x := Int32.toInt_inj.mp (by rw [oc_mn_i, oc_mn_i]; omega)
theorem oc_mx_c (x y : Int32) : oc_mx x y = oc_mx y x := Int32.toInt_inj.mp (by rw [oc_mx_i, oc_mx_i]; omega)
theorem oc_mn_a (x y z : Int32) : oc_mn (oc_mn x y) z = oc_mn x (oc_mn y z) := Int32.toInt_inj.mp (by rw [oc_mn_i, oc_mn_i, oc_mn_i, oc_mn_i]; omega)
theorem oc_mx_a (x y z : Int32) : oc_mx (oc_mx x y) z = oc_mx x (oc_mx y z) := Int32.toInt_inj.mp (by rw [oc_mx_i, oc_mx_i, oc_mx_i, oc_mx_i]; omega)
theorem oc_mn_s (x : Int32) : oc_mn x x = x := Int32.toInt_inj.mp (by rw [oc_mn_i]; omega)
theorem oc_mx_s (x : Int32) : oc_mx x x = x := Int32.toInt_inj.mp (by rw [oc_mx_i]; omega)
/-- a measure that lies between the two marks -/
def oc_ok (x : Int32) : Prop := -10000 ≤ x.toInt ∧ x.toInt ≤ 10000
theorem oc_K : (10000 : Int32).toInt = 10000 := by decide
theorem oc_K' : (-10000 : Int32).toInt = -10000 := by decide
theorem oc_mn_r {x : Int32} (h : oc_ok x) : oc_mn x 10000 = x := Int32.toInt_inj.mp (by rw [oc_mn_i, oc_K]; have := h.2; omega)
theorem oc_mn_l {x : Int32} (h : oc_ok x) : oc_mn 10000 x = x := by rw [oc_mn_c]; exact oc_mn_r h
theorem oc_mx_r {x : Int32} (h : oc_ok x) : oc_mx x (-10000) = x := Int32.toInt_inj.mp (by rw [oc_mx_i, oc_K']; have := h.1; omega)
theorem oc_mx_l {x : Int32} (h : oc_ok x) : oc_mx (-10000) x = x := by rw [oc_mx_c]; exact oc_mx_r h
def oc_w (P : Bool) (f j : Nat) (x e : Int32) : Int32 := if P = true ∧ f = j then x else e
def oc_d (P : Bool) (f j : Nat) : Nat := if P = true ∧ f = j then 1 else 0
def oc_n (P Q R : Bool) (f g h j : Nat) : Nat := oc_d P f j + oc_d Q g j + oc_d R h j
def oc_s (P Q R : Bool) (f g h : Nat) (a b c : Int32) (j : Nat) : Int32 := oc_w P f j a 0 + oc_w Q g j b 0 + oc_w R h j c 0
def oc_l (P Q R : Bool) (f g h : Nat) (a b c : Int32) (j : Nat) : Int32 := oc_mn (oc_mn (oc_mn 10000 (oc_w P f j a 10000)) (oc_w Q g j b 10000)) (oc_w R h j c 10000)
def oc_h (P Q R : Bool) (f g h : Nat) (a b c : Int32) (j : Nat) : Int32 := oc_mx (oc_mx (oc_mx (-10000) (oc_w P f j a (-10000))) (oc_w Q g j b (-10000))) (oc_w R h j c (-10000))
def oc_f (P Q R : Bool) (f g h : Nat) : Nat := (if P = true then 1 else 0) + (if Q = true ∧ ¬ (P = true ∧ f = g) then 1 else 0) + (if R = true ∧ ¬ (P = true ∧ f = h) ∧ ¬ (Q = true ∧ g = h) then 1 else 0)
theorem oc_w_0 (f j : Nat) (x e : Int32) : oc_w false f j x e = e := if_neg (fun z => absurd z.1 (by decide))
theorem oc_d_0 (f j : Nat) : oc_d false f j = 0 := if_neg (fun z => absurd z.1 (by decide))
theorem oc_w_1 (f : Nat) (x e : Int32) : oc_w true f f x e = x := if_pos ⟨rfl, rfl⟩
theorem oc_d_1 (f : Nat) : oc_d true f f = 1 := if_pos ⟨rfl, rfl⟩
theorem oc_w_ne {P p : Bool} {f j t : Nat} {x e : Int32} (hp : p = true → f = t) (hj : j ≠ t) : oc_w (P || p) f j x e = oc_w P f j x e := by
  unfold oc_w
  cases p with
  | false => rw [Bool.or_false]
  | true =>
    have hf := hp rfl
    rw [if_neg (fun z => hj (z.2.symm.trans hf)), if_neg (fun z => hj (z.2.symm.trans hf))]
theorem oc_d_ne {P p : Bool} {f j t : Nat} (hp : p = true → f = t) (hj : j ≠ t) : oc_d (P || p) f j = oc_d P f j := by
  unfold oc_d
  cases p with
  | false => rw [Bool.or_false]
  | true =>
    have hf := hp rfl
    rw [if_neg (fun z => hj (z.2.symm.trans hf)), if_neg (fun z => hj (z.2.symm.trans hf))]
theorem oc_w_eq {P p : Bool} {f t : Nat} {x e : Int32} (op : Int32 → Int32 → Int32) (hp : p = true → f = t) (hP : P = true → p = false) (h1 : op x e = x) (h2 : op e x = x) (h3 : op e e = e) : oc_w (P || p) f t x e = op (oc_w P f t x e) (oc_w p f t x e) := by
  cases p with
  | false =>
    rw [Bool.or_false, oc_w_0]
    unfold oc_w
    by_cases z : P = true ∧ f = t
    · rw [if_pos z, h1]
    · rw [if_neg z, h3]
  | true =>
    have hf := hp rfl
    cases P with
    | true => exact absurd (hP rfl) (by decide)
    | false =>
      subst hf
      rw [Bool.false_or, oc_w_0, oc_w_1, h2]
theorem oc_d_eq {P p : Bool} {f t : Nat} (hp : p = true → f = t) (hP : P = true → p = false) : oc_d (P || p) f t = oc_d P f t + oc_d p f t := by
  cases p with
  | false => rw [Bool.or_false, oc_d_0, Nat.add_zero]
  | true =>
    have hf := hp rfl
    cases P with
    | true => exact absurd (hP rfl) (by decide)
    | false =>
      subst hf
      rw [Bool.false_or, oc_d_0, oc_d_1]
theorem oc_mn_ac (K A B C A' B' C' : Int32) : oc_mn (oc_mn (oc_mn K (oc_mn A A')) (oc_mn B B')) (oc_mn C C') = oc_mn (oc_mn (oc_mn (oc_mn K A) B) C) (oc_mn (oc_mn (oc_mn K A') B') C') := by
  have i1 : Std.Associative oc_mn := ⟨oc_mn_a⟩
  have i2 : Std.Commutative oc_mn := ⟨oc_mn_c⟩
  have i3 : Std.IdempotentOp oc_mn := ⟨oc_mn_s⟩
  ac_rfl
theorem oc_mx_ac (K A B C A' B' C' : Int32) : oc_mx (oc_mx (oc_mx K (oc_mx A A')) (oc_mx B B')) (oc_mx C C') = oc_mx (oc_mx (oc_mx (oc_mx K A) B) C) (oc_mx (oc_mx (oc_mx K A') B') C') := by
  have i1 : Std.Associative oc_mx := ⟨oc_mx_a⟩
  have i2 : Std.Commutative oc_mx := ⟨oc_mx_c⟩
  have i3 : Std.IdempotentOp oc_mx := ⟨oc_mx_s⟩
  ac_rfl
theorem oc_ad_ac (A B C A' B' C' : Int32) : (A + A') + (B + B') + (C + C') = (A + B + C) + (A' + B' + C') := by ac_rfl
section
variable {P Q R p q r : Bool} {f g h j t : Nat} {a b c : Int32}
theorem oc_n_ne (hp : p = true → f = t) (hq : q = true → g = t) (hr : r = true → h = t) (hj : j ≠ t) : oc_n (P || p) (Q || q) (R || r) f g h j = oc_n P Q R f g h j := by
  unfold oc_n
  rw [oc_d_ne hp hj, oc_d_ne hq hj, oc_d_ne hr hj]
theorem oc_s_ne (hp : p = true → f = t) (hq : q = true → g = t) (hr : r = true → h = t) (hj : j ≠ t) : oc_s (P || p) (Q || q) (R || r) f g h a b c j = oc_s P Q R f g h a b c j := by
  unfold oc_s
  rw [oc_w_ne hp hj, oc_w_ne hq hj, oc_w_ne hr hj]
theorem oc_l_ne (hp : p = true → f = t) (hq : q = true → g = t) (hr : r = true → h = t) (hj : j ≠ t) : oc_l (P || p) (Q || q) (R || r) f g h a b c j = oc_l P Q R f g h a b c j := by
  unfold oc_l
  rw [oc_w_ne hp hj, oc_w_ne hq hj, oc_w_ne hr hj]
theorem oc_h_ne (hp : p = true → f = t) (hq : q = true → g = t) (hr : r = true → h = t) (hj : j ≠ t) : oc_h (P || p) (Q || q) (R || r) f g h a b c j = oc_h P Q R f g h a b c j := by
  unfold oc_h
  rw [oc_w_ne hp hj, oc_w_ne hq hj, oc_w_ne hr hj]
theorem oc_n_eq (hp : p = true → f = t) (hq : q = true → g = t) (hr : r = true → h = t) (hP : P = true → p = false) (hQ : Q = true → q = false) (hR : R = true → r = false) : oc_n (P || p) (Q || q) (R || r) f g h t = oc_n P Q R f g h t + oc_n p q r f g h t := by
  unfold oc_n
  rw [oc_d_eq hp hP, oc_d_eq hq hQ, oc_d_eq hr hR]
  omega
theorem oc_s_eq (hp : p = true → f = t) (hq : q = true → g = t) (hr : r = true → h = t) (hP : P = true → p = false) (hQ : Q = true → q = false) (hR : R = true → r = false) : oc_s (P || p) (Q || q) (R || r) f g h a b c t = oc_s P Q R f g h a b c t + oc_s p q r f g h a b c t := by
  unfold oc_s
  rw [oc_w_eq (fun x y => x + y) hp hP (Int32.add_zero _) (Int32.zero_add _) (Int32.add_zero _), oc_w_eq (fun x y => x + y) hq hQ (Int32.add_zero _) (Int32.zero_add _) (Int32.add_zero _), oc_w_eq (fun x y => x + y) hr hR (Int32.add_zero _) (Int32.zero_add _) (Int32.add_zero _)]
  exact oc_ad_ac _ _ _ _ _ _
theorem oc_l_eq (ha : oc_ok a) (hb : oc_ok b) (hc : oc_ok c) (hp : p = true → f = t) (hq : q = true → g = t) (hr : r = true → h = t) (hP : P = true → p = false) (hQ : Q = true → q = false) (hR : R = true → r = false) : oc_l (P || p) (Q || q) (R || r) f g h a b c t = oc_mn (oc_l P Q R f g h a b c t) (oc_l p q r f g h a b c t) := by
  unfold oc_l
  rw [oc_w_eq oc_mn hp hP (oc_mn_r ha) (oc_mn_l ha) (oc_mn_s _), oc_w_eq oc_mn hq hQ (oc_mn_r hb) (oc_mn_l hb) (oc_mn_s _), oc_w_eq oc_mn hr hR (oc_mn_r hc) (oc_mn_l hc) (oc_mn_s _)]
  exact oc_mn_ac _ _ _ _ _ _ _
theorem oc_h_eq (ha : oc_ok a) (hb : oc_ok b) (hc : oc_ok c) (hp : p = true → f = t) (hq : q = true → g = t) (hr : r = true → h = t) (hP : P = true → p = false) (hQ : Q = true → q = false) (hR : R = true → r = false) : oc_h (P || p) (Q || q) (R || r) f g h a b c t = oc_mx (oc_h P Q R f g h a b c t) (oc_h p q r f g h a b c t) := by
  unfold oc_h
  rw [oc_w_eq oc_mx hp hP (oc_mx_r ha) (oc_mx_l ha) (oc_mx_s _), oc_w_eq oc_mx hq hQ (oc_mx_r hb) (oc_mx_l hb) (oc_mx_s _), oc_w_eq oc_mx hr hR (oc_mx_r hc) (oc_mx_l hc) (oc_mx_s _)]
  exact oc_mx_ac _ _ _ _ _ _ _
theorem oc_f_eq (hp : p = true → f = t) (hq : q = true → g = t) (hr : r = true → h = t) (hP : P = true → p = false) (hQ : Q = true → q = false) (hR : R = true → r = false) (hx : p = true ∨ q = true ∨ r = true) : oc_f (P || p) (Q || q) (R || r) f g h = oc_f P Q R f g h + (if oc_n P Q R f g h t = 0 then 1 else 0) := by
  unfold oc_f oc_n oc_d
  cases P <;> cases Q <;> cases R <;> cases p <;> cases q <;> cases r <;> simp at hp hq hr hP hQ hR hx ⊢ <;> grind
theorem oc_n_le : oc_n P Q R f g h j ≤ 3 := by
  unfold oc_n oc_d
  split <;> split <;> split <;> omega
theorem oc_f_le : oc_f P Q R f g h ≤ 3 := by
  unfold oc_f
  split <;> split <;> split <;> omega
end
theorem oc_n0 {n : Nat} (h : n ≤ 3) : nI n = 0 ↔ n = 0 := by
  rw [← nI_0]
  exact nI_eq (by omega) (by omega)
/-- slot s holds the picture -/
def oc_S (s : Nat) (P Q R : Bool) (f g h : Nat) (a b c : Int32) (a4 a6 a7 a8 a9 : Nat → Int32) : Prop := a4 s = nI (oc_f P Q R f g h) ∧ ∀ j, j < 192 → a6 (192 * s + j) = nI (oc_n P Q R f g h j) ∧ a7 (192 * s + j) = oc_s P Q R f g h a b c j ∧ a8 (192 * s + j) = oc_l P Q R f g h a b c j ∧ a9 (192 * s + j) = oc_h P Q R f g h a b c j
theorem oc_fr {s : Nat} {P Q R : Bool} {f g h : Nat} {a b c : Int32} {a4 a6 a7 a8 a9 b4 b6 b7 b8 b9 : Nat → Int32} (H : oc_S s P Q R f g h a b c a4 a6 a7 a8 a9) (h4 : b4 s = a4 s) (hk : ∀ k, 192 * s ≤ k → k < 192 * s + 192 → b6 k = a6 k ∧ b7 k = a7 k ∧ b8 k = a8 k ∧ b9 k = a9 k) : oc_S s P Q R f g h a b c b4 b6 b7 b8 b9 := by
  refine ⟨h4.trans H.1, fun j hj => ?_⟩
  obtain ⟨e6, e7, e8, e9⟩ := hk (192 * s + j) (by omega) (by omega)
  obtain ⟨h6, h7, h8, h9⟩ := H.2 j hj
  exact ⟨e6.trans h6, e7.trans h7, e8.trans h8, e9.trans h9⟩
theorem oc_ent {s t : Nat} {P Q R p q r : Bool} {f g h : Nat} {a b c m x lo hi : Int32} {a4 a6 a7 a8 a9 : Nat → Int32} (H : oc_S s P Q R f g h a b c a4 a6 a7 a8 a9) (ht : t < 192) (ha : oc_ok a) (hb : oc_ok b) (hc : oc_ok c) (hp : p = true → f = t) (hq : q = true → g = t) (hr : r = true → h = t) (hP : P = true → p = false) (hQ : Q = true → q = false) (hR : R = true → r = false) (hx : p = true ∨ q = true ∨ r = true)
    (em : m = nI (oc_n p q r f g h t)) (ex : x = oc_s p q r f g h a b c t) (el : lo = oc_l p q r f g h a b c t) (eh : hi = oc_h p q r f g h a b c t) :
    oc_S s (P || p) (Q || q) (R || r) f g h a b c (upd a4 s (a4 s + (if a6 (192 * s + t) = 0 then 1 else 0))) (upd a6 (192 * s + t) (a6 (192 * s + t) + m)) (upd a7 (192 * s + t) (a7 (192 * s + t) + x)) (upd a8 (192 * s + t) (oc_mn (a8 (192 * s + t)) lo)) (upd a9 (192 * s + t) (oc_mx (a9 (192 * s + t)) hi)) := by
  obtain ⟨h6, h7, h8, h9⟩ := H.2 t ht
  refine ⟨?_, fun j hj => ?_⟩
  · rw [pk_us, H.1, h6, oc_f_eq hp hq hr hP hQ hR hx, ← nI_add]
    by_cases z : oc_n P Q R f g h t = 0
    · rw [if_pos z, if_pos ((oc_n0 oc_n_le).mpr z)]
      rfl
    · rw [if_neg z, if_neg (fun y => z ((oc_n0 oc_n_le).mp y))]
      rfl
  · by_cases z : j = t
    · subst z
      refine ⟨?_, ?_, ?_, ?_⟩
      · rw [pk_us, h6, em, nI_add, oc_n_eq hp hq hr hP hQ hR]
      · rw [pk_us, h7, ex, oc_s_eq hp hq hr hP hQ hR]
      · rw [pk_us, h8, el, oc_l_eq ha hb hc hp hq hr hP hQ hR]
      · rw [pk_us, h9, eh, oc_h_eq ha hb hc hp hq hr hP hQ hR]
    · have n : 192 * s + j ≠ 192 * s + t := by omega
      obtain ⟨g6, g7, g8, g9⟩ := H.2 j hj
      refine ⟨?_, ?_, ?_, ?_⟩
      · rw [pk_un n, g6, oc_n_ne hp hq hr z]
      · rw [pk_un n, g7, oc_s_ne hp hq hr z]
      · rw [pk_un n, g8, oc_l_ne hp hq hr z]
      · rw [pk_un n, g9, oc_h_ne hp hq hr z]
end
section
/-! the small methods: what a place is seen as -/
def oc_sa (x a : Nat) : Nat := if x = 0 then a else if x = 1 then a / 2 else 0
def oc_sb (x a : Nat) : Nat := if x = 0 then a else if x = 1 then a / 2 else if x = 2 then a / 3 else 0
def oc_sc (x a : Nat) : Nat := if x = 0 then a else if x = 1 then a / 2 else if x = 2 then a / 4 else 0
def oc_sn (y k : Nat) : Nat := 48 * oc_sa (y / 16) (k / 48) + 8 * oc_sb (y / 4 % 4) (k / 8 % 6) + oc_sc (y % 4) (k % 8)
theorem oc_sa_le (x a : Nat) : oc_sa x a ≤ a := by
  unfold oc_sa
  split
  · omega
  · split <;> omega
theorem oc_sb_le (x a : Nat) : oc_sb x a ≤ a := by
  unfold oc_sb
  split
  · omega
  · split
    · omega
    · split <;> omega
theorem oc_sc_le (x a : Nat) : oc_sc x a ≤ a := by
  unfold oc_sc
  split
  · omega
  · split
    · omega
    · split <;> omega
theorem oc_sn_lt {y k : Nat} (hk : k < 192) : oc_sn y k < 192 := by
  unfold oc_sn
  have h1 := oc_sa_le (y / 16) (k / 48)
  have h2 := oc_sb_le (y / 4 % 4) (k / 8 % 6)
  have h3 := oc_sc_le (y % 4) (k % 8)
  omega
theorem oc_sn_0 {k : Nat} (hk : k < 192) : oc_sn 0 k = k := by
  have e : oc_sn 0 k = 48 * (k / 48) + 8 * (k / 8 % 6) + k % 8 := rfl
  rw [e]
  omega
theorem oc_sn_47 (k : Nat) : oc_sn 47 k = 0 := rfl
theorem oc_lin (A B C : Nat) : (48 : Int32) * nI A + 8 * nI B + nI C = nI (48 * A + 8 * B + C) := by
  show nI 48 * nI A + nI 8 * nI B + nI C = _
  rw [pk_mul, pk_mul, nI_add, nI_add]
theorem oc_eA {x a : Nat} (hx : x < 3) : (if (if x = 2 then 0 else x + 1) = 0 then 0 else a / (if x = 2 then 0 else x + 1)) = oc_sa x a := by
  have h : x = 0 ∨ x = 1 ∨ x = 2 := by omega
  rcases h with rfl | rfl | rfl <;> simp [oc_sa]
theorem oc_eB {x a : Nat} (hx : x < 4) : (if (if x = 3 then 0 else x + 1) = 0 then 0 else a / (if x = 3 then 0 else x + 1)) = oc_sb x a := by
  have h : x = 0 ∨ x = 1 ∨ x = 2 ∨ x = 3 := by omega
  rcases h with rfl | rfl | rfl | rfl <;> simp [oc_sb]
theorem oc_eC {x a : Nat} (hx : x < 4) : (if (if x = 3 then 0 else 2 ^ x) = 0 then 0 else a / (if x = 3 then 0 else 2 ^ x)) = oc_sc x a := by
  have h : x = 0 ∨ x = 1 ∨ x = 2 ∨ x = 3 := by omega
  rcases h with rfl | rfl | rfl | rfl <;> simp [oc_sc]
theorem oc_sh2 {y : Nat} (hy : y < 48) : (nI y >>> ((2 : Int32) &&& 31)) &&& 3 = nI (y / 4 % 4) := by
  rw [pk_shrN (by omega) _ 2 (by decide)]
  exact pk_andN (by omega) 2 (by decide)
theorem oc_sh4 {y : Nat} (hy : y < 48) : nI y >>> ((4 : Int32) &&& 31) = nI (y / 16) := pk_shrN (by omega) _ 4 (by decide)
theorem oc_an3 {y : Nat} (hy : y < 48) : nI y &&& 3 = nI (y % 4) := pk_andN (by omega) 2 (by decide)
theorem oc_shl : ∀ n, n < 3 → (1 : Int32) <<< (nI n &&& 31) = nI (2 ^ n) := by decide +kernel
theorem oc_d48 {k : Nat} (hk : k < 192) : nI k / 48 = nI (k / 48) := pk_div (d := 48) (by omega) (by decide) (by decide)
theorem oc_d8 {k : Nat} (hk : k < 192) : nI k / 8 = nI (k / 8) := pk_div (d := 8) (by omega) (by decide) (by decide)
theorem oc_r6 {k : Nat} (hk : k < 192) : nI k / 8 - nI k / 8 / 6 * 6 = nI (k / 8 % 6) := by
  rw [oc_d8 hk]
  exact pk_rem (d := 6) (by omega) (by decide) (by decide)
theorem oc_r8 {k : Nat} (hk : k < 192) : nI k - nI k / 8 * 8 = nI (k % 8) := pk_rem (d := 8) (by omega) (by decide) (by decide)
section
variable {post : Int32 → Prop}
theorem oc_byA {y : Nat} (hy : y < 48) (H : post (nI (if y / 16 = 2 then 0 else y / 16 + 1))) : wpX_byA post () (nI y) := by
  unfold wpX_byA
  refine nm_r (oc_sh4 hy) ?_
  refine pk_eq (y / 16) 2 (fun z => ?_) (fun z => ?_)
  · rw [if_pos z] at H
    exact H
  · rw [if_neg z, ← nI_1] at H
    exact H
theorem oc_byB {y : Nat} (hy : y < 48) (H : post (nI (if y / 4 % 4 = 3 then 0 else y / 4 % 4 + 1))) : wpX_byB post () (nI y) := by
  unfold wpX_byB
  refine nm_r (oc_sh2 hy) ?_
  refine pk_eq (y / 4 % 4) 3 (fun z => ?_) (fun z => ?_)
  · rw [if_pos z] at H
    exact H
  · rw [if_neg z, ← nI_1] at H
    exact H
theorem oc_byC {y : Nat} (hy : y < 48) (H : post (nI (if y % 4 = 3 then 0 else 2 ^ (y % 4)))) : wpX_byC post () (nI y) := by
  unfold wpX_byC
  refine nm_r (oc_an3 hy) ?_
  refine pk_eq (y % 4) 3 (fun z => ?_) (fun z => ?_)
  · rw [if_pos z] at H
    exact H
  · rw [if_neg z, ← oc_shl (y % 4) (by omega)] at H
    exact H
theorem oc_coarser {x y : Int32} {k b : Nat} (hx : x = nI k) (hy : y = nI b) (hk : k < 2 ^ 31) (hb : b < 2 ^ 31) (H : post (nI (if b = 0 then 0 else k / b))) : wpX_coarser post () x y := by
  subst hx hy
  unfold wpX_coarser
  refine pk_le b 0 (fun z => ?_) (fun z => ⟨nI_ne0 z hb, ?_⟩)
  · rw [if_pos (by omega)] at H
    exact H
  · rw [if_neg (by omega)] at H
    rw [pk_div hk z hb]
    exact H
theorem oc_seenAs {y k : Nat} (hy : y < 48) (hk : k < 192) (H : post (nI (oc_sn y k))) : wpX_seenAs post () (nI y) (nI k) := by
  unfold wpX_seenAs
  refine ⟨by decide, oc_byA hy (oc_coarser (k := k / 48) (oc_d48 hk) rfl (by omega) (by split <;> omega) ⟨by decide, by decide, oc_byB hy (oc_coarser (k := k / 8 % 6) (oc_r6 hk) rfl (by omega) (by split <;> omega) ⟨by decide, oc_byC hy (oc_coarser (k := k % 8) (oc_r8 hk) rfl (by omega) ?_ ?_)⟩)⟩)⟩
  · have h : y % 4 = 0 ∨ y % 4 = 1 ∨ y % 4 = 2 ∨ y % 4 = 3 := by omega
    rcases h with h | h | h | h <;> rw [h] <;> decide
  · rw [oc_eA (by omega), oc_eB (by omega), oc_eC (by omega), oc_lin]
    exact H
theorem oc_seen47 {p : Int32} (H : post 0) : wpX_seenAs post () 47 p := by
  unfold wpX_seenAs
  have e : (48 : Int32) * 0 + 8 * 0 + 0 = 0 := by decide
  refine ⟨by decide, oc_byA (y := 47) (by decide) (br_t (by decide) ⟨by decide, by decide, oc_byB (y := 47) (by decide) (br_t (by decide) ⟨by decide, oc_byC (y := 47) (by decide) (br_t (by decide) ?_)⟩)⟩)⟩
  show post (48 * 0 + 8 * 0 + 0)
  rw [e]
  exact H
theorem oc_cell0 {y k : Nat} (hy : y < 48) (hk : k < 192) (H : post (nI (oc_sn y k))) : wpX_cellFrom post () 0 (nI k) (nI y) := by
  unfold wpX_cellFrom
  refine oc_byA (y := 0) (by decide) ⟨by decide, nm_r (e' := nI (k / 48)) ?_ (oc_byB (y := 0) (by decide) ⟨by decide, by decide, nm_r (e' := nI (k / 8 % 6)) ?_ (oc_byC (y := 0) (by decide) ⟨by decide, nm_r (e' := nI (k % 8)) ?_ ?_⟩)⟩)⟩
  · rw [oc_d48 hk]
    show nI 1 * nI (k / 48) = _
    rw [pk_mul, Nat.one_mul]
  · rw [oc_r6 hk]
    show nI 1 * nI (k / 8 % 6) = _
    rw [pk_mul, Nat.one_mul]
  · rw [oc_r8 hk]
    show nI 1 * nI (k % 8) = _
    rw [pk_mul, Nat.one_mul]
  · rw [oc_lin, show 48 * (k / 48) + 8 * (k / 8 % 6) + k % 8 = k by omega]
    exact oc_seenAs hy hk H
theorem oc_cell47 {x k : Nat} (hx : x < 48) (H : post 0) : wpX_cellFrom post () (nI x) (nI k) 47 := by
  unfold wpX_cellFrom
  exact oc_byA hx ⟨by decide, nm_e (oc_byB hx ⟨by decide, by decide, nm_e (oc_byC hx ⟨by decide, nm_e (oc_seen47 H)⟩)⟩)⟩
theorem oc_s87 {A B C z : Nat} (hC : C < 8) (hz : z < 4) (H : post (nI (48 * A + 8 * B + oc_sc z C))) : wL_seen_87 post (nI A) (nI B) (nI C) (nI z) := by
  unfold wL_seen_87
  refine pk_le z 0 (fun h => ?_) (fun h => pk_eq z 1 (fun e => ⟨by decide, ?_⟩) (fun e => pk_eq z 2 (fun e2 => ⟨by decide, ?_⟩) (fun e2 => ?_)))
  · rw [show oc_sc z C = C by unfold oc_sc; rw [if_pos (by omega)], ← oc_lin] at H
    exact H
  · rw [show oc_sc z C = C / 2 by unfold oc_sc; rw [if_neg (by omega), if_pos e], ← oc_lin, ← pk_div (d := 2) (by omega) (by decide) (by decide)] at H
    exact H
  · rw [show oc_sc z C = C / 4 by unfold oc_sc; rw [if_neg (by omega), if_neg e, if_pos e2], ← oc_lin, ← pk_div (d := 4) (by omega) (by decide) (by decide)] at H
    exact H
  · rw [show oc_sc z C = 0 by unfold oc_sc; rw [if_neg (by omega), if_neg e, if_neg e2], ← oc_lin] at H
    exact H
theorem oc_s56 {A B C w z : Nat} (hB : B < 6) (hC : C < 8) (hw : w < 4) (hz : z < 4) (H : post (nI (48 * A + 8 * oc_sb w B + oc_sc z C))) : wL_seen_56 post (nI A) (nI B) (nI C) (nI w) (nI z) := by
  unfold wL_seen_56
  refine pk_le w 0 (fun h => ?_) (fun h => pk_eq w 1 (fun e => ⟨by decide, ?_⟩) (fun e => pk_eq w 2 (fun e2 => ⟨by decide, ?_⟩) (fun e2 => ?_)))
  · rw [show oc_sb w B = B by unfold oc_sb; rw [if_pos (by omega)]] at H
    exact oc_s87 hC hz H
  · rw [show oc_sb w B = B / 2 by unfold oc_sb; rw [if_neg (by omega), if_pos e]] at H
    have t := oc_s87 hC hz H
    rw [← pk_div (d := 2) (by omega) (by decide) (by decide)] at t
    exact t
  · rw [show oc_sb w B = B / 3 by unfold oc_sb; rw [if_neg (by omega), if_neg e, if_pos e2]] at H
    have t := oc_s87 hC hz H
    rw [← pk_div (d := 3) (by omega) (by decide) (by decide)] at t
    exact t
  · rw [show oc_sb w B = 0 by unfold oc_sb; rw [if_neg (by omega), if_neg e, if_neg e2]] at H
    exact oc_s87 hC hz H
theorem oc_seen {y k : Nat} (hy : y < 48) (hk : k < 192) (H : post (nI (oc_sn y k))) : wpL_seen post () (nI y) (nI k) := by
  unfold wpL_seen
  refine ⟨by decide, nm_r (oc_d48 hk) ⟨by decide, by decide, nm_r (oc_r6 hk) ⟨by decide, nm_r (oc_r8 hk) ⟨by decide, nm_r (e' := nI (y / 16)) ?_ ⟨by decide, by decide, nm_r (e' := nI (y / 4 % 4)) ?_ ⟨by decide, nm_r (e' := nI (y % 4)) ?_ ?_⟩⟩⟩⟩⟩⟩
  · exact pk_div (d := 16) (by omega) (by decide) (by decide)
  · rw [show nI y / 4 = nI (y / 4) from pk_div (d := 4) (by omega) (by decide) (by decide)]
    exact pk_rem (d := 4) (by omega) (by decide) (by decide)
  · exact pk_rem (d := 4) (by omega) (by decide) (by decide)
  · unfold oc_sn at H
    refine pk_le (y / 16) 0 (fun h => ?_) (fun h => pk_eq (y / 16) 1 (fun e => ⟨by decide, ?_⟩) (fun e => ?_))
    · rw [show oc_sa (y / 16) (k / 48) = k / 48 by unfold oc_sa; rw [if_pos (by omega)]] at H
      exact oc_s56 (by omega) (by omega) (by omega) (by omega) H
    · rw [show oc_sa (y / 16) (k / 48) = k / 48 / 2 by unfold oc_sa; rw [if_neg (by omega), if_pos e]] at H
      have t := oc_s56 (by omega) (by omega) (by omega) (by omega) H
      rw [← pk_div (d := 2) (by omega) (by decide) (by decide)] at t
      exact t
    · rw [show oc_sa (y / 16) (k / 48) = 0 by unfold oc_sa; rw [if_neg (by omega), if_neg e]] at H
      exact oc_s56 (by omega) (by omega) (by omega) (by omega) H
theorem oc_finer {y : Nat} (hy : y < 48) (H : post 1) : wpX_isFiner post () (nI y) 47 := by
  have F : wX_isFiner_27 post (nI y) 47 := by
    unfold wX_isFiner_27 wX_isFiner_32
    exact pk_lt 2 (y / 16) (fun z => absurd z (by omega)) (fun _ => pk_lt 3 (y % 4) (fun z => absurd z (by omega)) (fun _ => br_f (by decide) H) (by decide) (oc_an3 hy)) (by decide) (oc_sh4 hy)
  unfold wpX_isFiner
  exact nm_r (oc_sh2 hy) (nm_r (e' := nI 3) (by decide) (pk_lt 3 (y / 4 % 4) (fun z => absurd z (by omega)) (fun _ => pk_eq (y / 4 % 4) 1 (fun _ => br_f (by decide) F) (fun _ => F))))
theorem oc_isView {y : Nat} (hy : y < 48) (H : post 1) : wpX_isView post () (nI y) := by
  unfold wpX_isView
  exact pk_lt y 0 (fun z => absurd z (by omega)) (fun _ => pk_le 48 y (fun z => absurd z (by omega)) (fun _ => H))
theorem oc_isCell {y : Nat} (hy : y < 192) (H : post 1) : wpX_isCell post () (nI y) := by
  unfold wpX_isCell
  exact pk_lt y 0 (fun z => absurd z (by omega)) (fun _ => pk_le 192 y (fun z => absurd z (by omega)) (fun _ => H))
theorem oc_isMeasure {m : Int32} (h1 : ¬ m < (-1000)) (h2 : ¬ 1000 < m) (H : post 1) : wpX_isMeasure post () m := by
  unfold wpX_isMeasure
  exact br_f h1 (br_f h2 H)
end
end
section
/-! enter, wipe, the constructor, add, put -/
theorem oc_192 (s : Nat) : (192 : Int32) * nI s = nI (192 * s) := by
  show nI 192 * nI s = _
  rw [pk_mul]
theorem oc_192a (s j : Nat) : (192 : Int32) * nI s + nI j = nI (192 * s + j) := by rw [oc_192, nI_add]
theorem oc_192b (s : Nat) : (192 : Int32) * nI s + 192 = nI (192 * s + 192) := oc_192a s 192
theorem oc_f_0 (f g h : Nat) : oc_f false false false f g h = 0 := by
  unfold oc_f
  simp
theorem oc_n_0 (f g h j : Nat) : oc_n false false false f g h j = 0 := by
  unfold oc_n
  rw [oc_d_0, oc_d_0, oc_d_0]
theorem oc_s_0 (f g h : Nat) (a b c : Int32) (j : Nat) : oc_s false false false f g h a b c j = 0 := by
  unfold oc_s
  rw [oc_w_0, oc_w_0, oc_w_0]
  decide
theorem oc_l_0 (f g h : Nat) (a b c : Int32) (j : Nat) : oc_l false false false f g h a b c j = 10000 := by
  unfold oc_l
  rw [oc_w_0, oc_w_0, oc_w_0, oc_mn_s, oc_mn_s, oc_mn_s]
theorem oc_h_0 (f g h : Nat) (a b c : Int32) (j : Nat) : oc_h false false false f g h a b c j = -10000 := by
  unfold oc_h
  rw [oc_w_0, oc_w_0, oc_w_0, oc_mx_s, oc_mx_s, oc_mx_s]
section
variable {z k : Int32} {a1 a2 a3 a4 a5 a6 a7 a8 a9 : Nat → Int32}
theorem oc_enter {post : St2 → Prop} {s j : Nat} {m t lo hi : Int32} (hs : s < 5) (hj : j < 192)
    (H : post (z, k, a1, a2, a3, upd a4 s (a4 s + (if a6 (192 * s + j) = 0 then 1 else 0)), a5, upd a6 (192 * s + j) (a6 (192 * s + j) + m), upd a7 (192 * s + j) (a7 (192 * s + j) + t), upd a8 (192 * s + j) (oc_mn (a8 (192 * s + j)) lo), upd a9 (192 * s + j) (oc_mx (a9 (192 * s + j)) hi))) :
    wpX_enter post (z, k, a1, a2, a3, a4, a5, a6, a7, a8, a9) (nI s) (nI j) m t lo hi := by
  have hk : (nI (192 * s + j)).toNatClampNeg = 192 * s + j := nI_clamp (by omega)
  have hs' : (nI s).toNatClampNeg = s := nI_clamp (by omega)
  have i5 : vp_in (nI s) 5 := vp_in_nI hs (by decide)
  have ik : vp_in (nI (192 * s + j)) 960 := vp_in_nI (by omega) (by decide)
  have F86 : ∀ (b4 b6 b7 : Nat → Int32) (z0 : Int32), post (z, k, a1, a2, a3, b4, a5, b6, b7, upd a8 (192 * s + j) z0, upd a9 (192 * s + j) (oc_mx (a9 (192 * s + j)) hi)) → wX_enter_86 post hi (nI (192 * s + j)) z0 (nI (192 * s + j)) z k a1 a2 a3 b4 a5 b6 b7 a8 a9 := by
    intro b4 b6 b7 z0 h
    unfold wX_enter_86
    rw [hk]
    refine ⟨ik, nm_e ⟨ik, br_c (fun c => ⟨ik, ik, nm_e ?_⟩) (fun c => ⟨ik, nm_e ?_⟩)⟩⟩
    · rw [show oc_mx (a9 (192 * s + j)) hi = a9 (192 * s + j) from if_pos c] at h
      exact h
    · rw [show oc_mx (a9 (192 * s + j)) hi = hi from if_neg c] at h
      exact h
  have F31 : ∀ d : Int32, post (z, k, a1, a2, a3, upd a4 s (a4 s + d), a5, upd a6 (192 * s + j) (a6 (192 * s + j) + m), upd a7 (192 * s + j) (a7 (192 * s + j) + t), upd a8 (192 * s + j) (oc_mn (a8 (192 * s + j)) lo), upd a9 (192 * s + j) (oc_mx (a9 (192 * s + j)) hi)) → wX_enter_31 post m t lo hi (nI (192 * s + j)) d (a4 s) (nI s) z k a1 a2 a3 a4 a5 a6 a7 a8 a9 := by
    intro d h
    unfold wX_enter_31
    rw [hk, hs']
    refine ⟨i5, nm_e ⟨ik, ik, nm_e ⟨ik, ik, nm_e ⟨ik, br_c (fun c => ⟨ik, F86 _ _ _ _ ?_⟩) (fun c => F86 _ _ _ _ ?_)⟩⟩⟩⟩
    · rw [show oc_mn (a8 (192 * s + j)) lo = a8 (192 * s + j) from if_pos c] at h
      exact h
    · rw [show oc_mn (a8 (192 * s + j)) lo = lo from if_neg c] at h
      exact h
  unfold wpX_enter
  refine nm_r (oc_192a s j) ?_
  rw [hk, hs']
  refine ⟨i5, ik, br_c (fun c => F31 1 ?_) (fun c => F31 0 ?_)⟩
  · rw [if_pos c] at H
    exact H
  · rw [if_neg c] at H
    exact H
theorem oc_wipe {post : St2 → Prop} {s : Nat} (f g h : Nat) (a b c : Int32) (hs : s < 5)
    (H : ∀ b6 b7 b8 b9 : Nat → Int32, oc_S s false false false f g h a b c (upd a4 s 0) b6 b7 b8 b9 → (∀ q, q < 192 * s ∨ 192 * s + 192 ≤ q → b6 q = a6 q ∧ b7 q = a7 q ∧ b8 q = a8 q ∧ b9 q = a9 q) → post (z, k, a1, a2, a3, upd a4 s 0, a5, b6, b7, b8, b9)) :
    wpX_wipe post (z, k, a1, a2, a3, a4, a5, a6, a7, a8, a9) (nI s) := by
  unfold wpX_wipe
  rw [nI_clamp (show s < 2 ^ 31 by omega)]
  refine ⟨vp_in_nI hs (by decide), nm_e (nm_r (oc_192 s) ?_)⟩
  refine pk_loop (σ := (Nat → Int32) × (Nat → Int32) × (Nat → Int32) × (Nat → Int32)) (fun n i x => wX_wipe_13 post (nI s) z k n (nI i) a1 a2 a3 (upd a4 s 0) a5 x.1 x.2.1 x.2.2.1 x.2.2.2)
    (fun i x => 192 * s ≤ i ∧ (∀ q, 192 * s ≤ q → q < i → x.1 q = 0 ∧ x.2.1 q = 0 ∧ x.2.2.1 q = 10000 ∧ x.2.2.2 q = -10000) ∧ (∀ q, q < 192 * s ∨ i ≤ q → x.1 q = a6 q ∧ x.2.1 q = a7 q ∧ x.2.2.1 q = a8 q ∧ x.2.2.2 q = a9 q))
    (192 * s + 192) (192 * s) (a6, a7, a8, a9) (by omega) ⟨by omega, fun q h1 h2 => absurd h2 (by omega), fun q _ => ⟨rfl, rfl, rfl, rfl⟩⟩ ?_ ?_
  · intro n x hx
    refine pk_le (192 * s + 192) (192 * s + 192) (fun _ => H _ _ _ _ ⟨?_, fun j hj => ?_⟩ (fun q hq => hx.2.2 q (by omega))) (fun y => absurd y (by omega)) (oc_192b s)
    · rw [pk_us, oc_f_0]
      rfl
    · rw [oc_n_0, oc_s_0, oc_l_0, oc_h_0]
      exact hx.2.1 (192 * s + j) (by omega) (by omega)
  · intro n i x hi hx hw
    have ei : (nI i).toNatClampNeg = i := nI_clamp (by omega)
    have iv : vp_in (nI i) 960 := vp_in_nI (by omega) (by decide)
    refine pk_le (192 * s + 192) i (fun y => absurd y (by omega)) (fun _ => ⟨iv, nm_r (e' := upd x.1 i 0) (by rw [ei]) ⟨iv, nm_r (e' := upd x.2.1 i 0) (by rw [ei]) ⟨iv, nm_r (e' := upd x.2.2.1 i 10000) (by rw [ei]) ⟨iv, nm_r (e' := upd x.2.2.2 i (-10000)) (by rw [ei]) (nm_r (nI_1 i) (hw (upd x.1 i 0, upd x.2.1 i 0, upd x.2.2.1 i 10000, upd x.2.2.2 i (-10000)) ⟨?_, fun q h1 h2 => ?_, fun q hq => ?_⟩))⟩⟩⟩⟩) (oc_192b s)
    · have := hx.1
      omega
    · by_cases e : q = i
      · subst e
        exact ⟨pk_us, pk_us, pk_us, pk_us⟩
      · have t := hx.2.1 q h1 (by omega)
        exact ⟨(pk_un e).trans t.1, (pk_un e).trans t.2.1, (pk_un e).trans t.2.2.1, (pk_un e).trans t.2.2.2⟩
    · have h0 := hx.1
      have e : q ≠ i := by omega
      have t := hx.2.2 q (by omega)
      exact ⟨(pk_un e).trans t.1, (pk_un e).trans t.2.1, (pk_un e).trans t.2.2.1, (pk_un e).trans t.2.2.2⟩
theorem oc_init {post : St2 → Prop} {mc ms : Nat} (f g h : Nat) (a b c : Int32) (h1 : 9 ≤ mc) (h2 : 3935 ≤ ms)
    (H : ∀ a3 a4 a6 a7 a8 a9 : Nat → Int32, a3 0 = 0 → (∀ i, 1 ≤ i → i < 5 → a3 i = -1) → oc_S 0 false false false f g h a b c a4 a6 a7 a8 a9 → post (0, 0, fun _ => 0, fun _ => 0, a3, a4, fun _ => 0, a6, a7, a8, a9)) :
    wpX_init post mc ms (0, 0) := by
  unfold wpX_init
  refine ⟨by omega, by omega, by omega, by omega, by omega, by omega, by omega, by omega, by omega, by omega, by omega, by omega, by omega, by omega, by omega, by omega, by omega, by omega, ?_⟩
  refine pk_loop (fun n i x => wX_init_79 post mc ms 9 3935 0 0 n (nI i) (fun _ => 0) (fun _ => 0) x (fun _ => 0) (fun _ => 0) (fun _ => 0) (fun _ => 0) (fun _ => 0) (fun _ => 0)) (fun i x => 1 ≤ i ∧ x 0 = 0 ∧ ∀ q, 1 ≤ q → q < i → x q = -1) 5 1 (fun _ => 0) (by omega) ⟨by omega, rfl, fun q h1 h2 => absurd h2 (by omega)⟩ ?_ ?_
  · intro n x hx
    exact pk_le 5 5 (fun _ => oc_wipe (s := 0) f g h a b c (by decide) (fun b6 b7 b8 b9 hS _ => H x _ b6 b7 b8 b9 hx.2.1 hx.2.2 hS)) (fun y => absurd y (by omega))
  · intro n i x hi hx hw
    have h0 := hx.1
    refine pk_le 5 i (fun y => absurd y (by omega)) (fun _ => ⟨pk_in i 5 hi, nm_r (e' := upd x i (-1)) (by rw [nI_clamp (by omega)]) (nm_r (nI_1 i) (hw _ ⟨by omega, ?_, fun q g1 g2 => ?_⟩))⟩)
    · rw [pk_un (by omega)]
      exact hx.2.1
    · by_cases e : q = i
      · subst e
        exact pk_us
      · rw [pk_un e]
        exact hx.2.2 q g1 (by omega)
theorem oc_add {post : St2 → Prop} {n u : Nat} {m : Int32} (hn : n < 40) (hu : u < 192) (h0 : a3 0 = 0) (h1 : ∀ i, 1 ≤ i → i < 5 → a3 i = -1)
    (H : post (nI (n + 1), k, upd a1 n (nI u), upd a2 n m, a3, upd a4 0 (a4 0 + (if a6 (192 * 0 + u) = 0 then 1 else 0)), a5, upd a6 (192 * 0 + u) (a6 (192 * 0 + u) + 1), upd a7 (192 * 0 + u) (a7 (192 * 0 + u) + m), upd a8 (192 * 0 + u) (oc_mn (a8 (192 * 0 + u)) m), upd a9 (192 * 0 + u) (oc_mx (a9 (192 * 0 + u)) m))) :
    wpX_add post (nI n, k, a1, a2, a3, a4, a5, a6, a7, a8, a9) (nI u) m := by
  unfold wpX_add
  dsimp only
  rw [nI_clamp (show n < 2 ^ 31 by omega)]
  refine ⟨vp_in_nI hn (by decide), nm_e ⟨vp_in_nI hn (by decide), nm_e (nm_r (nI_1 n) ?_)⟩⟩
  have T : ∀ b1 b2 b4 b6 b7 b8 b9 : Nat → Int32, post (nI (n + 1), k, b1, b2, a3, b4, a5, b6, b7, b8, b9) → ∃ fu, wX_add_32 post (nI u) m fu (nI 1) (nI (n + 1)) k b1 b2 a3 b4 a5 b6 b7 b8 b9 := by
    intro b1 b2 b4 b6 b7 b8 b9 hp
    refine pk_loop (σ := Unit) (fun fu i _ => wX_add_32 post (nI u) m fu (nI i) (nI (n + 1)) k b1 b2 a3 b4 a5 b6 b7 b8 b9) (fun i _ => 1 ≤ i) 5 1 () (by omega) (by omega) ?_ ?_
    · intro fu _ _
      exact pk_le 5 5 (fun _ => hp) (fun y => absurd y (by omega))
    · intro fu i _ hi h2 hw
      exact pk_le 5 i (fun y => absurd y (by omega)) (fun _ => ⟨pk_in i 5 hi, br_t (by rw [nI_clamp (by omega)]; exact h1 i h2 hi) (nm_r (nI_1 i) (hw () (by omega)))⟩)
  obtain ⟨fu, hfu⟩ := T _ _ _ _ _ _ _ H
  refine ⟨fu + 1, pk_le 5 0 (fun y => absurd y (by omega)) (fun _ => ⟨pk_in 0 5 (by decide), br_f ?_ ⟨pk_in 0 5 (by decide), ?_⟩⟩)⟩
  · rw [sb_cl0, h0]
    decide
  · rw [sb_cl0, h0]
    refine oc_seenAs (y := 0) (by decide) hu ?_
    rw [oc_sn_0 hu]
    exact oc_enter (s := 0) (by decide) hu (nm_r (nI_1 0) hfu)
theorem oc_put {post : Int32 → St2 → Prop} {n u : Nat} {m : Int32} (hn : n < 40) (hu : u < 192) (m1 : ¬ m < (-1000)) (m2 : ¬ 1000 < m) (h0 : a3 0 = 0) (h1 : ∀ i, 1 ≤ i → i < 5 → a3 i = -1)
    (H : post (nI n) (nI (n + 1), k, upd a1 n (nI u), upd a2 n m, a3, upd a4 0 (a4 0 + (if a6 (192 * 0 + u) = 0 then 1 else 0)), a5, upd a6 (192 * 0 + u) (a6 (192 * 0 + u) + 1), upd a7 (192 * 0 + u) (a7 (192 * 0 + u) + m), upd a8 (192 * 0 + u) (oc_mn (a8 (192 * 0 + u)) m), upd a9 (192 * 0 + u) (oc_mx (a9 (192 * 0 + u)) m))) :
    wpX_put post (nI n, k, a1, a2, a3, a4, a5, a6, a7, a8, a9) (nI u) m := by
  unfold wpX_put
  refine oc_isCell hu (br_f (by decide) (oc_isMeasure m1 m2 (br_f (by decide) (pk_eq n 40 (fun y => absurd y (by omega)) (fun _ => oc_add hn hu h0 h1 ?_)))))
  show post (nI (n + 1) - 1) _
  rw [nI_pred]
  exact H
/-- a put, by the picture of slot 0: t is the place, p q r say which of the three facts it is -/
theorem oc_putS {post : Int32 → St2 → Prop} {n t : Nat} {P Q R p q r : Bool} {f g h : Nat} {a b c m : Int32} (hn : n < 40) (ht : t < 192) (m1 : ¬ m < (-1000)) (m2 : ¬ 1000 < m) (h0 : a3 0 = 0) (h1 : ∀ i, 1 ≤ i → i < 5 → a3 i = -1)
    (hS : oc_S 0 P Q R f g h a b c a4 a6 a7 a8 a9) (ha : oc_ok a) (hb : oc_ok b) (hc : oc_ok c) (hp : p = true → f = t) (hq : q = true → g = t) (hr : r = true → h = t) (hP : P = true → p = false) (hQ : Q = true → q = false) (hR : R = true → r = false) (hx : p = true ∨ q = true ∨ r = true)
    (em : 1 = oc_n p q r f g h t) (ex : m = oc_s p q r f g h a b c t) (el : m = oc_l p q r f g h a b c t) (eh : m = oc_h p q r f g h a b c t)
    (H : ∀ b1 b2 b4 b6 b7 b8 b9 : Nat → Int32, oc_S 0 (P || p) (Q || q) (R || r) f g h a b c b4 b6 b7 b8 b9 → post (nI n) (nI (n + 1), k, b1, b2, a3, b4, a5, b6, b7, b8, b9)) :
    wpX_put post (nI n, k, a1, a2, a3, a4, a5, a6, a7, a8, a9) (nI t) m :=
  oc_put hn ht m1 m2 h0 h1 (H _ _ _ _ _ _ _ (oc_ent hS ht ha hb hc hp hq hr hP hQ hR hx (congrArg nI em) ex el eh))
end
theorem oc_one1 {f g h : Nat} {a b c : Int32} (ha : oc_ok a) : 1 = oc_n true false false f g h f ∧ a = oc_s true false false f g h a b c f ∧ a = oc_l true false false f g h a b c f ∧ a = oc_h true false false f g h a b c f := by
  unfold oc_n oc_s oc_l oc_h
  simp only [oc_d_0, oc_d_1, oc_w_0, oc_w_1, oc_mn_l ha, oc_mn_r ha, oc_mx_l ha, oc_mx_r ha, Int32.add_zero, and_self]
theorem oc_one2 {f g h : Nat} {a b c : Int32} (hb : oc_ok b) : 1 = oc_n false true false f g h g ∧ b = oc_s false true false f g h a b c g ∧ b = oc_l false true false f g h a b c g ∧ b = oc_h false true false f g h a b c g := by
  unfold oc_n oc_s oc_l oc_h
  simp only [oc_d_0, oc_d_1, oc_w_0, oc_w_1, oc_mn_s, oc_mx_s, oc_mn_l hb, oc_mn_r hb, oc_mx_l hb, oc_mx_r hb, Int32.add_zero, Int32.zero_add, and_self]
theorem oc_one3 {f g h : Nat} {a b c : Int32} (hc : oc_ok c) : 1 = oc_n false false true f g h h ∧ c = oc_s false false true f g h a b c h ∧ c = oc_l false false true f g h a b c h ∧ c = oc_h false false true f g h a b c h := by
  unfold oc_n oc_s oc_l oc_h
  simp only [oc_d_0, oc_d_1, oc_w_0, oc_w_1, oc_mn_s, oc_mx_s, oc_mn_l hc, oc_mn_r hc, oc_mx_l hc, oc_mx_r hc, Int32.add_zero, Int32.zero_add, and_self]
end
section
/-! workOut -/
theorem oc_dec (u i : Nat) : (decide (u < i) || decide (u = i)) = decide (u < i + 1) := Bool.eq_iff_iff.mpr (by simp only [Bool.or_eq_true, decide_eq_true_eq]; omega)
theorem oc_srcd (τ : Nat → Nat) (u i : Nat) : oc_d true u i = oc_d (decide (u = i)) (τ u) (τ i) := by
  by_cases e : u = i
  · subst e
    rw [decide_eq_true rfl, oc_d_1, oc_d_1]
  · rw [decide_eq_false e, oc_d_0]
    exact if_neg (fun z => e z.2)
theorem oc_srcw (τ : Nat → Nat) (u i : Nat) (x e : Int32) : oc_w true u i x e = oc_w (decide (u = i)) (τ u) (τ i) x e := by
  by_cases h : u = i
  · subst h
    rw [decide_eq_true rfl, oc_w_1, oc_w_1]
  · rw [decide_eq_false h, oc_w_0]
    exact if_neg (fun z => h z.2)
theorem oc_nz {u v w i : Nat} (h : oc_n true true true u v w i = 0) : u ≠ i ∧ v ≠ i ∧ w ≠ i := by
  refine ⟨fun e => ?_, fun e => ?_, fun e => ?_⟩ <;> subst e <;> unfold oc_n at h <;> rw [oc_d_1] at h <;> omega
theorem oc_nnz {u v w i : Nat} (h : 0 < oc_n true true true u v w i) : u = i ∨ v = i ∨ w = i := by
  by_cases h1 : u = i
  · exact Or.inl h1
  · by_cases h2 : v = i
    · exact Or.inr (Or.inl h2)
    · by_cases h3 : w = i
      · exact Or.inr (Or.inr h3)
      · exfalso
        unfold oc_n oc_d at h
        rw [if_neg (fun z => h1 z.2), if_neg (fun z => h2 z.2), if_neg (fun z => h3 z.2)] at h
        omega
section
variable {z k : Int32} {a1 a2 a3 a4 a5 a6 a7 a8 a9 : Nat → Int32}
theorem oc_work {post : St2 → Prop} {s t : Nat} {Y : Int32} {u v w : Nat} {a b c : Int32} (τ : Nat → Nat) (hs : s < 5) (ht : t < 5) (hst : s ≠ t) (ha : oc_ok a) (hb : oc_ok b) (hc : oc_ok c) (hu : u < 192) (hv : v < 192) (hw : w < 192)
    (hS : oc_S s true true true u v w a b c a4 a6 a7 a8 a9) (hτ : ∀ i, i < 192 → τ i < 192) (hf : ∀ (ψ : Int32 → Prop) (i : Nat), i < 192 → ψ (nI (τ i)) → wpX_cellFrom ψ () (a3 s) (nI i) Y)
    (H : ∀ b4 b6 b7 b8 b9 : Nat → Int32, oc_S t true true true (τ u) (τ v) (τ w) a b c b4 b6 b7 b8 b9 → (∀ s', s' ≠ t → b4 s' = a4 s') → (∀ q, q < 192 * t ∨ 192 * t + 192 ≤ q → b6 q = a6 q ∧ b7 q = a7 q ∧ b8 q = a8 q ∧ b9 q = a9 q) → post (z, k, a1, a2, upd a3 t Y, b4, upd a5 t k, b6, b7, b8, b9)) :
    wpX_workOut post (z, k, a1, a2, a3, a4, a5, a6, a7, a8, a9) Y (nI s) (nI t) := by
  unfold wpX_workOut
  refine oc_wipe (τ u) (τ v) (τ w) a b c ht (fun c6 c7 c8 c9 h0 hfr => ?_)
  have et : (nI t).toNatClampNeg = t := nI_clamp (by omega)
  refine ⟨vp_in_nI ht (by decide), nm_r (e' := upd a3 t Y) (by rw [et]) ⟨vp_in_nI ht (by decide), nm_r (e' := upd a5 t k) (by rw [et]) ?_⟩⟩
  refine pk_loop (σ := (Nat → Int32) × (Nat → Int32) × (Nat → Int32) × (Nat → Int32) × (Nat → Int32)) (fun n i x => wX_workOut_25 post Y (nI s) (nI t) n (nI i) z k a1 a2 (upd a3 t Y) x.1 (upd a5 t k) x.2.1 x.2.2.1 x.2.2.2.1 x.2.2.2.2)
    (fun i x => oc_S t (decide (u < i)) (decide (v < i)) (decide (w < i)) (τ u) (τ v) (τ w) a b c x.1 x.2.1 x.2.2.1 x.2.2.2.1 x.2.2.2.2 ∧ (∀ s', s' ≠ t → x.1 s' = a4 s') ∧ (∀ q, q < 192 * t ∨ 192 * t + 192 ≤ q → x.2.1 q = a6 q ∧ x.2.2.1 q = a7 q ∧ x.2.2.2.1 q = a8 q ∧ x.2.2.2.2 q = a9 q))
    192 0 (upd a4 t 0, c6, c7, c8, c9) (by omega) ⟨?_, fun s' h' => pk_un h', hfr⟩ ?_ ?_
  · rw [decide_eq_false (Nat.not_lt_zero u), decide_eq_false (Nat.not_lt_zero v), decide_eq_false (Nat.not_lt_zero w)]
    exact h0
  · intro n x hx
    have h1 := hx.1
    rw [decide_eq_true hu, decide_eq_true hv, decide_eq_true hw] at h1
    exact pk_le 192 192 (fun _ => H _ _ _ _ _ h1 hx.2.1 hx.2.2) (fun y => absurd y (by omega))
  · intro n i x hi hx hk
    have ec : (nI (192 * s + i)).toNatClampNeg = 192 * s + i := nI_clamp (by omega)
    have iv : vp_in (nI (192 * s + i)) 960 := vp_in_nI (by omega) (by decide)
    obtain ⟨f6, f7, f8, f9⟩ := hx.2.2 (192 * s + i) (by omega)
    obtain ⟨g6, g7, g8, g9⟩ := hS.2 i hi
    have hn3 : oc_n true true true u v w i ≤ 3 := oc_n_le
    refine pk_le 192 i (fun y => absurd y (by omega)) (fun _ => nm_r (oc_192a s i) ⟨iv, ?_⟩)
    rw [ec, f6, f7, f8, f9, g6, g7, g8, g9]
    refine pk_le (oc_n true true true u v w i) 0 (fun e => nm_r (nI_1 i) (hk x ⟨?_, hx.2.1, hx.2.2⟩)) (fun e => ⟨vp_in_nI hs (by decide), ?_⟩)
    · obtain ⟨n1, n2, n3⟩ := oc_nz (Nat.le_zero.mp e)
      rw [← oc_dec u, ← oc_dec v, ← oc_dec w, decide_eq_false n1, decide_eq_false n2, decide_eq_false n3, Bool.or_false, Bool.or_false, Bool.or_false]
      exact hx.1
    · rw [nI_clamp (show s < 2 ^ 31 by omega), pk_un hst]
      refine hf _ i hi ⟨iv, iv, iv, iv, oc_enter ht (hτ i hi) (nm_r (nI_1 i) (hk (_, _, _, _, _) ⟨?_, fun s' hs' => ?_, fun q hq => ?_⟩))⟩
      · rw [← oc_dec u, ← oc_dec v, ← oc_dec w]
        refine oc_ent hx.1 (hτ i hi) ha hb hc (fun y => congrArg τ (of_decide_eq_true y)) (fun y => congrArg τ (of_decide_eq_true y)) (fun y => congrArg τ (of_decide_eq_true y)) (fun y => decide_eq_false (by have := of_decide_eq_true y; omega)) (fun y => decide_eq_false (by have := of_decide_eq_true y; omega)) (fun y => decide_eq_false (by have := of_decide_eq_true y; omega)) ?_ ?_ ?_ ?_ ?_
        · rcases oc_nnz e with y | y | y
          · exact Or.inl (decide_eq_true y)
          · exact Or.inr (Or.inl (decide_eq_true y))
          · exact Or.inr (Or.inr (decide_eq_true y))
        · unfold oc_n
          rw [← oc_srcd, ← oc_srcd, ← oc_srcd]
        · unfold oc_s
          rw [← oc_srcw, ← oc_srcw, ← oc_srcw]
        · unfold oc_l
          rw [← oc_srcw, ← oc_srcw, ← oc_srcw]
        · unfold oc_h
          rw [← oc_srcw, ← oc_srcw, ← oc_srcw]
      · exact (pk_un hs').trans (hx.2.1 s' hs')
      · have h1 := hτ i hi
        have n1 : q ≠ 192 * t + τ i := by omega
        have t1 := hx.2.2 q hq
        exact ⟨(pk_un n1).trans t1.1, (pk_un n1).trans t1.2.1, (pk_un n1).trans t1.2.2.1, (pk_un n1).trans t1.2.2.2⟩
end
end
section
/-! slotFor -/
theorem oc_nm1 {y : Nat} (hy : y < 48) : nI y ≠ -1 := by
  intro e
  have h : (nI y).toInt = (-1 : Int32).toInt := congrArg Int32.toInt e
  rw [nI_toInt (by omega), show (-1 : Int32).toInt = -1 from by decide] at h
  omega
section
variable {z k : Int32} {a1 a2 a3 a4 a5 a6 a7 a8 a9 : Nat → Int32} {post : Int32 → St2 → Prop}
theorem oc_hit {t : Nat} {Y : Int32} (ht : t < 5) (h1 : a3 t = Y) (h0 : ∀ i, i < t → a3 i ≠ Y) (H : post (nI t) (z, k + 1, a1, a2, a3, a4, upd a5 t (k + 1), a6, a7, a8, a9)) : wpX_slotFor post (z, k, a1, a2, a3, a4, a5, a6, a7, a8, a9) Y := by
  unfold wpX_slotFor
  refine nm_e ?_
  refine pk_loop (σ := Unit) (fun n i _ => wX_slotFor_12 post Y z (k + 1) a1 a2 a3 a4 a5 a6 a7 a8 a9 n (nI i)) (fun _ _ => True) t 0 () (by omega) trivial ?_ ?_
  · intro n _ _
    exact pk_le 5 t (fun y => absurd y (by omega)) (fun _ => ⟨pk_in t 5 ht, br_t (by rw [nI_clamp (by omega)]; exact h1) ⟨pk_in t 5 ht, nm_r (e' := upd a5 t (k + 1)) (by rw [nI_clamp (by omega)]) H⟩⟩)
  · intro n i _ hi _ hw
    exact pk_le 5 i (fun y => absurd y (by omega)) (fun _ => ⟨pk_in i 5 (by omega), br_f (by rw [nI_clamp (by omega)]; exact h0 i hi) (nm_r (nI_1 i) (hw () trivial))⟩)
theorem oc_miss {Y : Int32} (h0 : ∀ i, i < 5 → a3 i ≠ Y) (H : ∃ n, wX_slotFor_49 post Y z (k + 1) a1 a2 a3 a4 a5 a6 a7 a8 a9 n 0 1) : wpX_slotFor post (z, k, a1, a2, a3, a4, a5, a6, a7, a8, a9) Y := by
  unfold wpX_slotFor
  refine nm_e ?_
  refine pk_loop (σ := Unit) (fun n i _ => wX_slotFor_12 post Y z (k + 1) a1 a2 a3 a4 a5 a6 a7 a8 a9 n (nI i)) (fun _ _ => True) 5 0 () (by omega) trivial ?_ ?_
  · intro n _ _
    exact pk_le 5 5 (fun _ => H) (fun y => absurd y (by omega))
  · intro n i _ hi _ hw
    exact pk_le 5 i (fun y => absurd y (by omega)) (fun _ => ⟨pk_in i 5 (by omega), br_f (by rw [nI_clamp (by omega)]; exact h0 i hi) (nm_r (nI_1 i) (hw () trivial))⟩)
theorem oc_49 {Y : Int32} (q src : Nat) (hq : q ≤ 5) (hs : src < 5) (hn : ∀ i, q ≤ i → i < 5 → a3 i = -1) (H1 : src = 1 → ∃ n, wX_slotFor_130 post Y (nI src) z k a1 a2 a3 a4 a5 a6 a7 a8 a9 n 2 1) (H2 : src ≠ 1 → ∃ n, wX_slotFor_130 post Y (nI src) z k a1 a2 a3 a4 a5 a6 a7 a8 a9 n 1 1) : ∃ n, wX_slotFor_49 post Y z k a1 a2 a3 a4 a5 a6 a7 a8 a9 n (nI src) (nI q) := by
  refine pk_loop (σ := Unit) (fun n i _ => wX_slotFor_49 post Y z k a1 a2 a3 a4 a5 a6 a7 a8 a9 n (nI src) (nI i)) (fun i _ => q ≤ i) 5 q () hq (Nat.le_refl q) ?_ ?_
  · intro n _ _
    exact pk_le 5 5 (fun _ => pk_eq src 1 H1 H2) (fun y => absurd y (by omega))
  · intro n i _ hi h1 hw
    exact pk_le 5 i (fun y => absurd y (by omega)) (fun _ => ⟨pk_in i 5 (by omega), br_t (by rw [nI_clamp (by omega)]; exact hn i h1 hi) (br_t rfl (nm_r (nI_1 i) (hw () (Nat.le_succ_of_le h1))))⟩)
theorem oc_130 {Y : Int32} (q src tg : Nat) (hq : q ≤ 5) (hs : src < 5) (ht : tg < 5) (hv : a3 tg = -1) (hn : ∀ i, q ≤ i → i < 5 → i = src ∨ a3 i = -1) (H : ∀ ψ : St2 → Prop, (∀ (c1 c2 : Int32) (b1 b2 b3 b4 b5 b6 b7 b8 b9 : Nat → Int32), post (nI tg) (c1, c2, b1, b2, b3, b4, b5, b6, b7, b8, b9) → ψ (c1, c2, b1, b2, b3, b4, b5, b6, b7, b8, b9)) → wpX_workOut ψ (z, k, a1, a2, a3, a4, a5, a6, a7, a8, a9) Y (nI src) (nI tg)) : ∃ n, wX_slotFor_130 post Y (nI src) z k a1 a2 a3 a4 a5 a6 a7 a8 a9 n (nI tg) (nI q) := by
  refine pk_loop (σ := Unit) (fun n i _ => wX_slotFor_130 post Y (nI src) z k a1 a2 a3 a4 a5 a6 a7 a8 a9 n (nI tg) (nI i)) (fun i _ => q ≤ i) 5 q () hq (Nat.le_refl q) ?_ ?_
  · intro n _ _
    exact pk_le 5 5 (fun _ => H _ (fun _ _ _ _ _ _ _ _ _ _ _ h => h)) (fun y => absurd y (by omega))
  · intro n i _ hi h1 hw
    exact pk_le 5 i (fun y => absurd y (by omega)) (fun _ => pk_eq i src (fun _ => nm_r (nI_1 i) (hw () (Nat.le_succ_of_le h1))) (fun e => ⟨pk_in i 5 (by omega), br_t (by rw [nI_clamp (by omega)]; exact (hn i h1 hi).resolve_left e) ⟨pk_in tg 5 ht, br_t (by rw [nI_clamp (by omega)]; exact hv) (nm_r (nI_1 i) (hw () (Nat.le_succ_of_le h1)))⟩⟩))
/-- a view that no slot holds, slots 1 to 4 without a view: it is worked out of slot 0 into slot 1 -/
theorem oc_missA {y : Nat} (hy0 : y ≠ 0) (hy : y < 48) (h0 : a3 0 = 0) (h1 : ∀ i, 1 ≤ i → i < 5 → a3 i = -1) (H : ∀ ψ : St2 → Prop, (∀ (c1 c2 : Int32) (b1 b2 b3 b4 b5 b6 b7 b8 b9 : Nat → Int32), post (nI 1) (c1, c2, b1, b2, b3, b4, b5, b6, b7, b8, b9) → ψ (c1, c2, b1, b2, b3, b4, b5, b6, b7, b8, b9)) → wpX_workOut ψ (z, k + 1, a1, a2, a3, a4, a5, a6, a7, a8, a9) (nI y) (nI 0) (nI 1)) : wpX_slotFor post (z, k, a1, a2, a3, a4, a5, a6, a7, a8, a9) (nI y) := by
  refine oc_miss (fun i hi e => ?_) (oc_49 1 0 (by decide) (by decide) h1 (fun e => absurd e (by decide)) (fun _ => oc_130 1 0 1 (by decide) (by decide) (by decide) (h1 1 (by decide) (by decide)) (fun i g1 g2 => Or.inr (h1 i g1 g2)) H))
  by_cases e0 : i = 0
  · subst e0
    rw [h0] at e
    exact hy0 ((nI_eq (b := 0) (by omega) (by decide)).mp e.symm)
  · rw [h1 i (by omega) hi] at e
    exact oc_nm1 hy e.symm
/-- view 47 asked for, slot 1 with another view than 0 and 47, slots 2 to 4 without: out of slot 0 or 1 into slot 2 -/
theorem oc_missB {y : Nat} (hy0 : y ≠ 0) (hy47 : y ≠ 47) (hy : y < 48) (h0 : a3 0 = 0) (h1 : a3 1 = nI y) (h2 : ∀ i, 2 ≤ i → i < 5 → a3 i = -1) (H : ∀ s, s < 2 → ∀ ψ : St2 → Prop, (∀ (c1 c2 : Int32) (b1 b2 b3 b4 b5 b6 b7 b8 b9 : Nat → Int32), post (nI 2) (c1, c2, b1, b2, b3, b4, b5, b6, b7, b8, b9) → ψ (c1, c2, b1, b2, b3, b4, b5, b6, b7, b8, b9)) → wpX_workOut ψ (z, k + 1, a1, a2, a3, a4, a5, a6, a7, a8, a9) 47 (nI s) (nI 2)) : wpX_slotFor post (z, k, a1, a2, a3, a4, a5, a6, a7, a8, a9) 47 := by
  have c1 : (1 : Int32).toNatClampNeg = 1 := pk_cl 1
  have c2 : (2 : Int32).toNatClampNeg = 2 := pk_cl 2
  have n1 : a3 1 ≠ -1 := by
    rw [h1]
    exact oc_nm1 hy
  have A0 : ∃ n, wX_slotFor_130 post 47 (nI 0) z (k + 1) a1 a2 a3 a4 a5 a6 a7 a8 a9 n 1 1 := by
    obtain ⟨n, hn⟩ := oc_130 (post := post) (z := z) (k := k + 1) (a1 := a1) (a2 := a2) (a3 := a3) (a4 := a4) (a5 := a5) (a6 := a6) (a7 := a7) (a8 := a8) (a9 := a9) (Y := 47) 3 0 2 (by decide) (by decide) (by decide) (h2 2 (by decide) (by decide)) (fun i g1 g2 => Or.inr (h2 i (by omega) g2)) (H 0 (by decide))
    refine ⟨n + 1 + 1, pk_le 5 1 (fun y => absurd y (by omega)) (fun _ => pk_eq 1 0 (fun y => absurd y (by omega)) (fun _ => ⟨pk_in 1 5 (by decide), br_f ?_ ⟨pk_in 1 5 (by decide), pk_in 1 5 (by decide), br_t (Int32.le_refl _) (nm_r (e' := nI 2) (by decide) (pk_le 5 2 (fun y => absurd y (by omega)) (fun _ => pk_eq 2 0 (fun y => absurd y (by omega)) (fun _ => ⟨pk_in 2 5 (by decide), br_t ?_ ⟨pk_in 1 5 (by decide), br_f ?_ (nm_r (e' := nI 3) (by decide) hn)⟩⟩))))⟩⟩))⟩
    · rw [c1]
      exact n1
    · rw [pk_cl 2]
      exact h2 2 (by decide) (by decide)
    · rw [c1]
      exact n1
  have A1 : ∃ n, wX_slotFor_130 post 47 (nI 1) z (k + 1) a1 a2 a3 a4 a5 a6 a7 a8 a9 n 2 1 :=
    oc_130 1 1 2 (by decide) (by decide) (by decide) (h2 2 (by decide) (by decide)) (fun i g1 g2 => by
      by_cases e : i = 1
      · exact Or.inl e
      · exact Or.inr (h2 i (by omega) g2)) (H 1 (by decide))
  refine oc_miss (fun i hi e => ?_) ?_
  · by_cases e0 : i = 0
    · subst e0
      rw [h0] at e
      exact absurd e (by decide)
    · by_cases e1 : i = 1
      · subst e1
        rw [h1] at e
        exact hy47 ((nI_eq (b := 47) (by omega) (by decide)).mp e)
      · rw [h2 i (by omega) hi] at e
        exact absurd e (by decide)
  · by_cases c : a4 0 ≤ a4 1
    · obtain ⟨n, hn⟩ := oc_49 2 0 (by decide) (by decide) h2 (fun e => absurd e (by decide)) (fun _ => A0)
      refine ⟨n + 1, pk_le 5 1 (fun y => absurd y (by omega)) (fun _ => ⟨pk_in 1 5 (by decide), br_f (by rw [c1]; exact n1) ⟨pk_in 1 5 (by decide), ?_⟩⟩)⟩
      rw [c1, h1]
      exact oc_finer hy (br_f (by decide) (br_f (by decide) ⟨pk_in 1 5 (by decide), pk_in 0 5 (by decide), br_t c (nm_r (e' := nI 2) (by decide) hn)⟩))
    · obtain ⟨n, hn⟩ := oc_49 2 1 (by decide) (by decide) h2 (fun _ => A1) (fun e => absurd rfl e)
      refine ⟨n + 1, pk_le 5 1 (fun y => absurd y (by omega)) (fun _ => ⟨pk_in 1 5 (by decide), br_f (by rw [c1]; exact n1) ⟨pk_in 1 5 (by decide), ?_⟩⟩)⟩
      rw [c1, h1]
      exact oc_finer hy (br_f (by decide) (br_f (by decide) ⟨pk_in 1 5 (by decide), pk_in 0 5 (by decide), br_f c (nm_r (e' := nI 2) (by decide) hn)⟩))
end
/-- what stands when view y has been asked for: slot 0 the finest, slot 1 view y (unless it is the finest) -/
def oc_B (y u v w : Nat) (a b c : Int32) (a3 a4 a6 a7 a8 a9 : Nat → Int32) : Prop := a3 0 = 0 ∧ (y = 0 → a3 1 = -1) ∧ (y ≠ 0 → a3 1 = nI y ∧ oc_S 1 true true true (oc_sn y u) (oc_sn y v) (oc_sn y w) a b c a4 a6 a7 a8 a9) ∧ (∀ i, 2 ≤ i → i < 5 → a3 i = -1) ∧ oc_S 0 true true true u v w a b c a4 a6 a7 a8 a9
section
variable {z k : Int32} {a1 a2 a3 a4 a5 a6 a7 a8 a9 : Nat → Int32} {post : Int32 → St2 → Prop} {y u v w : Nat} {a b c : Int32}
theorem oc_slot (hy : y < 48) (hu : u < 192) (hv : v < 192) (hw : w < 192) (hB : oc_B y u v w a b c a3 a4 a6 a7 a8 a9) (H : ∀ (t : Nat) (k' : Int32) (a5' : Nat → Int32), t < 5 → oc_S t true true true (oc_sn y u) (oc_sn y v) (oc_sn y w) a b c a4 a6 a7 a8 a9 → post (nI t) (z, k', a1, a2, a3, a4, a5', a6, a7, a8, a9)) : wpX_slotFor post (z, k, a1, a2, a3, a4, a5, a6, a7, a8, a9) (nI y) := by
  obtain ⟨h0, hz, h1, h2, hS⟩ := hB
  by_cases e : y = 0
  · subst e
    rw [oc_sn_0 hu, oc_sn_0 hv, oc_sn_0 hw] at H
    exact oc_hit (t := 0) (by decide) h0 (fun i hi => absurd hi (by omega)) (H 0 _ _ (by decide) hS)
  · obtain ⟨g1, g2⟩ := h1 e
    refine oc_hit (t := 1) (by decide) g1 (fun i hi => ?_) (H 1 _ _ (by decide) g2)
    have e0 : i = 0 := by omega
    subst e0
    rw [h0]
    exact fun x => e ((nI_eq (b := 0) (by omega) (by decide)).mp x.symm)
theorem oc_first (hy : y < 48) (ha : oc_ok a) (hb : oc_ok b) (hc : oc_ok c) (hu : u < 192) (hv : v < 192) (hw : w < 192) (h0 : a3 0 = 0) (h1 : ∀ i, 1 ≤ i → i < 5 → a3 i = -1) (hS : oc_S 0 true true true u v w a b c a4 a6 a7 a8 a9)
    (H : ∀ (t : Nat) (k' : Int32) (b3 b4 b5 b6 b7 b8 b9 : Nat → Int32), t < 5 → oc_B y u v w a b c b3 b4 b6 b7 b8 b9 → oc_S t true true true (oc_sn y u) (oc_sn y v) (oc_sn y w) a b c b4 b6 b7 b8 b9 → post (nI t) (z, k', a1, a2, b3, b4, b5, b6, b7, b8, b9)) : wpX_slotFor post (z, k, a1, a2, a3, a4, a5, a6, a7, a8, a9) (nI y) := by
  by_cases e : y = 0
  · subst e
    rw [oc_sn_0 hu, oc_sn_0 hv, oc_sn_0 hw] at H
    exact oc_hit (t := 0) (by decide) h0 (fun i hi => absurd hi (by omega)) (H 0 _ _ _ _ _ _ _ _ (by decide) ⟨h0, fun _ => h1 1 (by decide) (by decide), fun x => absurd rfl x, fun i g1 g2 => h1 i (by omega) g2, hS⟩ hS)
  · refine oc_missA e hy h0 h1 (fun ψ hψ => oc_work (oc_sn y) (by decide) (by decide) (by decide) ha hb hc hu hv hw hS (fun i hi => oc_sn_lt hi) (fun χ i hi hχ => ?_) (fun b4 b6 b7 b8 b9 hT f4 fq => hψ _ _ _ _ _ _ _ _ _ _ _ (H 1 _ _ _ _ _ _ _ _ (by decide) ⟨?_, fun x => absurd x e, fun _ => ⟨pk_us, hT⟩, fun i g1 g2 => ?_, ?_⟩ hT)))
    · rw [h0]
      exact oc_cell0 hy hi hχ
    · rw [pk_un (by decide)]
      exact h0
    · rw [pk_un (by omega)]
      exact h1 i (by omega) g2
    · exact oc_fr hS (f4 0 (by decide)) (fun q _ g2 => fq q (by omega))
theorem oc_sum0 : oc_s true true true 0 0 0 a b c 0 = a + b + c := by
  unfold oc_s
  rw [oc_w_1, oc_w_1, oc_w_1]
theorem oc_last (hy : y < 48) (ha : oc_ok a) (hb : oc_ok b) (hc : oc_ok c) (hu : u < 192) (hv : v < 192) (hw : w < 192) (hB : oc_B y u v w a b c a3 a4 a6 a7 a8 a9)
    (H : ∀ (t : Nat) (k' : Int32) (b3 b4 b5 b6 b7 b8 b9 : Nat → Int32), t < 5 → b7 (192 * t + 0) = a + b + c → post (nI t) (z, k', a1, a2, b3, b4, b5, b6, b7, b8, b9)) : wpX_slotFor post (z, k, a1, a2, a3, a4, a5, a6, a7, a8, a9) 47 := by
  obtain ⟨h0, hz, h1, h2, hS⟩ := hB
  by_cases e : y = 0
  · refine oc_missA (y := 47) (by decide) (by decide) h0 (fun i g1 g2 => ?_) (fun ψ hψ => oc_work (fun _ => 0) (by decide) (by decide) (by decide) ha hb hc hu hv hw hS (fun i hi => by omega) (fun χ i hi hχ => ?_) (fun b4 b6 b7 b8 b9 hT f4 fq => hψ _ _ _ _ _ _ _ _ _ _ _ (H 1 _ _ _ _ _ _ _ _ (by decide) ((hT.2 0 (by decide)).2.1.trans oc_sum0))))
    · by_cases e1 : i = 1
      · subst e1
        exact hz e
      · exact h2 i (by omega) g2
    · rw [h0]
      exact oc_cell47 (x := 0) (by decide) hχ
  · obtain ⟨g1, g2⟩ := h1 e
    by_cases e' : y = 47
    · subst e'
      refine oc_hit (t := 1) (by decide) g1 (fun i hi => ?_) (H 1 _ _ _ _ _ _ _ _ (by decide) ((g2.2 0 (by decide)).2.1.trans oc_sum0))
      have e0 : i = 0 := by omega
      subst e0
      rw [h0]
      decide
    · refine oc_missB e e' hy h0 g1 h2 (fun s hs ψ hψ => ?_)
      have hs' : s = 0 ∨ s = 1 := by omega
      rcases hs' with rfl | rfl
      · refine oc_work (fun _ => 0) (by decide) (by decide) (by decide) ha hb hc hu hv hw hS (fun i hi => by omega) (fun χ i hi hχ => ?_) (fun b4 b6 b7 b8 b9 hT f4 fq => hψ _ _ _ _ _ _ _ _ _ _ _ (H 2 _ _ _ _ _ _ _ _ (by decide) ((hT.2 0 (by decide)).2.1.trans oc_sum0)))
        rw [h0]
        exact oc_cell47 (x := 0) (by decide) hχ
      · refine oc_work (fun _ => 0) (by decide) (by decide) (by decide) ha hb hc (oc_sn_lt hu) (oc_sn_lt hv) (oc_sn_lt hw) g2 (fun i hi => by omega) (fun χ i hi hχ => ?_) (fun b4 b6 b7 b8 b9 hT f4 fq => hψ _ _ _ _ _ _ _ _ _ _ _ (H 2 _ _ _ _ _ _ _ _ (by decide) ((hT.2 0 (by decide)).2.1.trans oc_sum0)))
        rw [g1]
        exact oc_cell47 hy hχ
end
end
section
/-! what the asking methods answer once view y stands -/
def oc_hv (G : Nat → Bool) (f g h i : Nat) : Nat := (if f < i ∧ G f = true then 1 else 0) + (if g < i ∧ f ≠ g ∧ G g = true then 1 else 0) + (if h < i ∧ f ≠ h ∧ g ≠ h ∧ G h = true then 1 else 0)
theorem oc_t1 {X : Prop} [Decidable X] (f i : Nat) : (if f < i + 1 ∧ X then 1 else 0) = (if f < i ∧ X then 1 else 0) + (if f = i ∧ X then (1 : Nat) else 0) := by
  by_cases hX : X
  · simp only [hX, and_true]
    split <;> split <;> split <;> omega
  · simp only [hX, and_false, if_false]
theorem oc_hv_n {G : Nat → Bool} {f g h i : Nat} (h1 : f ≠ i) (h2 : g ≠ i) (h3 : h ≠ i) : oc_hv G f g h (i + 1) = oc_hv G f g h i := by
  unfold oc_hv
  rw [oc_t1, oc_t1, oc_t1]
  grind
theorem oc_hv_f {G : Nat → Bool} {f g h i : Nat} (hG : G i = false) : oc_hv G f g h (i + 1) = oc_hv G f g h i := by
  unfold oc_hv
  rw [oc_t1, oc_t1, oc_t1]
  grind
theorem oc_hv_t {G : Nat → Bool} {f g h i : Nat} (hi : f = i ∨ g = i ∨ h = i) (hG : G i = true) : oc_hv G f g h (i + 1) = oc_hv G f g h i + 1 := by
  unfold oc_hv
  rw [oc_t1, oc_t1, oc_t1]
  grind
/-- the best of three cells: the greatest sum, of equals the first cell -/
def oc_bt (S : Nat → Int32) (m j : Nat) : Prop := (S j).toInt < (S m).toInt ∨ ((S j).toInt = (S m).toInt ∧ m ≤ j)
def oc_best3 (S : Nat → Int32) (f g h m : Nat) : Prop := (m = f ∨ m = g ∨ m = h) ∧ oc_bt S m f ∧ oc_bt S m g ∧ oc_bt S m h
theorem oc_best_u {S : Nat → Int32} {f g h m m' : Nat} (h1 : oc_best3 S f g h m) (h2 : oc_best3 S f g h m') : m = m' := by
  unfold oc_best3 oc_bt at h1 h2
  obtain ⟨a1, a2, a3, a4⟩ := h1
  obtain ⟨b1, b2, b3, b4⟩ := h2
  rcases a1 with e | e | e <;> rcases b1 with e' | e' | e' <;> subst e <;> subst e' <;> omega
/-- the invariant of best's loop -/
def oc_bI (S : Nat → Int32) (f g h i : Nat) (x : Int32) : Prop := (x = -2 ∧ i ≤ f ∧ i ≤ g ∧ i ≤ h) ∨ ∃ m, x = nI m ∧ m < i ∧ (m = f ∨ m = g ∨ m = h) ∧ (f < i → oc_bt S m f) ∧ (g < i → oc_bt S m g) ∧ (h < i → oc_bt S m h)
theorem oc_nle1 {i : Nat} (hi : i < 192) : ¬ nI i ≤ -1 := by
  rw [Int32.le_iff_toInt_le, nI_toInt (by omega), show (-1 : Int32).toInt = -1 from by decide]
  omega
theorem oc_less {post : Int32 → Prop} {x y : Int32} (H : post (oc_mn x y)) : wpL_less post () x y := by
  rw [oc_mn_c] at H
  unfold wpL_less
  refine br_c (fun c => ?_) (fun c => ?_)
  · rw [show oc_mn y x = y from if_pos c] at H
    exact H
  · rw [show oc_mn y x = x from if_neg c] at H
    exact H
theorem oc_more {post : Int32 → Prop} {x y : Int32} (H : post (oc_mx x y)) : wpL_more post () x y := by
  rw [oc_mx_c] at H
  unfold wpL_more
  refine br_c (fun c => ?_) (fun c => ?_)
  · rw [show oc_mx y x = y from if_pos c] at H
    exact H
  · rw [show oc_mx y x = x from if_neg c] at H
    exact H
theorem oc_lessN {post : Int32 → Prop} {x y : Nat} (hx : x < 192) (hy : y < 192) (H : post (nI (min x y))) : wpL_less post () (nI x) (nI y) := by
  unfold wpL_less
  refine pk_le y x (fun c => ?_) (fun c => ?_)
  · rw [Nat.min_eq_right c] at H
    exact H
  · rw [Nat.min_eq_left (Nat.le_of_lt c)] at H
    exact H
section
variable {z k : Int32} {a1 a2 a3 a4 a5 a6 a7 a8 a9 : Nat → Int32} {post : Int32 → St2 → Prop} {y u v w : Nat} {a b c : Int32}
theorem oc_full1 (hy : y < 48) (ha : oc_ok a) (hb : oc_ok b) (hc : oc_ok c) (hu : u < 192) (hv : v < 192) (hw : w < 192) (h0 : a3 0 = 0) (h1 : ∀ i, 1 ≤ i → i < 5 → a3 i = -1) (hS : oc_S 0 true true true u v w a b c a4 a6 a7 a8 a9)
    (H : ∀ (k' : Int32) (b3 b4 b5 b6 b7 b8 b9 : Nat → Int32), oc_B y u v w a b c b3 b4 b6 b7 b8 b9 → post (nI (oc_f true true true (oc_sn y u) (oc_sn y v) (oc_sn y w))) (z, k', a1, a2, b3, b4, b5, b6, b7, b8, b9)) : wpX_full post (z, k, a1, a2, a3, a4, a5, a6, a7, a8, a9) (nI y) := by
  unfold wpX_full
  refine oc_isView hy (br_f (by decide) (oc_first hy ha hb hc hu hv hw h0 h1 hS (fun t k' b3 b4 b5 b6 b7 b8 b9 ht hB hT => ⟨vp_in_nI ht (by decide), ?_⟩)))
  rw [nI_clamp (show t < 2 ^ 31 by omega), hT.1]
  exact H _ _ _ _ _ _ _ _ hB
theorem oc_full (hy : y < 48) (hu : u < 192) (hv : v < 192) (hw : w < 192) (hB : oc_B y u v w a b c a3 a4 a6 a7 a8 a9) (H : ∀ (k' : Int32) (a5' : Nat → Int32), post (nI (oc_f true true true (oc_sn y u) (oc_sn y v) (oc_sn y w))) (z, k', a1, a2, a3, a4, a5', a6, a7, a8, a9)) : wpX_full post (z, k, a1, a2, a3, a4, a5, a6, a7, a8, a9) (nI y) := by
  unfold wpX_full
  refine oc_isView hy (br_f (by decide) (oc_slot hy hu hv hw hB (fun t k' a5' ht hT => ⟨vp_in_nI ht (by decide), ?_⟩)))
  rw [nI_clamp (show t < 2 ^ 31 by omega), hT.1]
  exact H _ _
theorem oc_prepare (hy : y < 48) (hu : u < 192) (hv : v < 192) (hw : w < 192) (hB : oc_B y u v w a b c a3 a4 a6 a7 a8 a9) (H : ∀ (k' : Int32) (a5' : Nat → Int32), post (nI (oc_f true true true (oc_sn y u) (oc_sn y v) (oc_sn y w))) (z, k', a1, a2, a3, a4, a5', a6, a7, a8, a9)) : wpX_prepare post (z, k, a1, a2, a3, a4, a5, a6, a7, a8, a9) (nI y) := by
  unfold wpX_prepare
  exact oc_full hy hu hv hw hB (fun k' a5' => H k' a5')
theorem oc_sum {j : Nat} (hj : j < 192) (hy : y < 48) (hu : u < 192) (hv : v < 192) (hw : w < 192) (hB : oc_B y u v w a b c a3 a4 a6 a7 a8 a9) (H : ∀ (k' : Int32) (a5' : Nat → Int32), post (oc_s true true true (oc_sn y u) (oc_sn y v) (oc_sn y w) a b c j) (z, k', a1, a2, a3, a4, a5', a6, a7, a8, a9)) : wpX_sum post (z, k, a1, a2, a3, a4, a5, a6, a7, a8, a9) (nI y) (nI j) := by
  unfold wpX_sum
  refine oc_isView hy (br_f (by decide) (oc_isCell hj (br_f (by decide) (oc_slot hy hu hv hw hB (fun t k' a5' ht hT => ?_)))))
  show vp_in (192 * nI t + nI j) 960 ∧ post (a7 (192 * nI t + nI j).toNatClampNeg) _
  rw [oc_192a, nI_clamp (show 192 * t + j < 2 ^ 31 by omega), (hT.2 j hj).2.1]
  exact ⟨vp_in_nI (by omega) (by decide), H _ _⟩
theorem oc_least {j : Nat} (hj : j < 192) (hy : y < 48) (hu : u < 192) (hv : v < 192) (hw : w < 192) (hB : oc_B y u v w a b c a3 a4 a6 a7 a8 a9) (H : ∀ (k' : Int32) (a5' : Nat → Int32), post (oc_l true true true (oc_sn y u) (oc_sn y v) (oc_sn y w) a b c j) (z, k', a1, a2, a3, a4, a5', a6, a7, a8, a9)) : wpX_least post (z, k, a1, a2, a3, a4, a5, a6, a7, a8, a9) (nI y) (nI j) := by
  unfold wpX_least
  refine oc_isView hy (br_f (by decide) (oc_isCell hj (br_f (by decide) (oc_slot hy hu hv hw hB (fun t k' a5' ht hT => ?_)))))
  show vp_in (192 * nI t + nI j) 960 ∧ post (a8 (192 * nI t + nI j).toNatClampNeg) _
  rw [oc_192a, nI_clamp (show 192 * t + j < 2 ^ 31 by omega), (hT.2 j hj).2.2.1]
  exact ⟨vp_in_nI (by omega) (by decide), H _ _⟩
theorem oc_most {j : Nat} (hj : j < 192) (hy : y < 48) (hu : u < 192) (hv : v < 192) (hw : w < 192) (hB : oc_B y u v w a b c a3 a4 a6 a7 a8 a9) (H : ∀ (k' : Int32) (a5' : Nat → Int32), post (oc_h true true true (oc_sn y u) (oc_sn y v) (oc_sn y w) a b c j) (z, k', a1, a2, a3, a4, a5', a6, a7, a8, a9)) : wpX_most post (z, k, a1, a2, a3, a4, a5, a6, a7, a8, a9) (nI y) (nI j) := by
  unfold wpX_most
  refine oc_isView hy (br_f (by decide) (oc_isCell hj (br_f (by decide) (oc_slot hy hu hv hw hB (fun t k' a5' ht hT => ?_)))))
  show vp_in (192 * nI t + nI j) 960 ∧ post (a9 (192 * nI t + nI j).toNatClampNeg) _
  rw [oc_192a, nI_clamp (show 192 * t + j < 2 ^ 31 by omega), (hT.2 j hj).2.2.2]
  exact ⟨vp_in_nI (by omega) (by decide), H _ _⟩
theorem oc_count {j : Nat} (hj : j < 192) (hy : y < 48) (hu : u < 192) (hv : v < 192) (hw : w < 192) (hB : oc_B y u v w a b c a3 a4 a6 a7 a8 a9) (H : ∀ (k' : Int32) (a5' : Nat → Int32), post (nI (oc_n true true true (oc_sn y u) (oc_sn y v) (oc_sn y w) j)) (z, k', a1, a2, a3, a4, a5', a6, a7, a8, a9)) : wpX_count post (z, k, a1, a2, a3, a4, a5, a6, a7, a8, a9) (nI y) (nI j) := by
  unfold wpX_count
  refine oc_isView hy (br_f (by decide) (oc_isCell hj (br_f (by decide) (oc_slot hy hu hv hw hB (fun t k' a5' ht hT => ?_)))))
  show vp_in (192 * nI t + nI j) 960 ∧ post (a6 (192 * nI t + nI j).toNatClampNeg) _
  rw [oc_192a, nI_clamp (show 192 * t + j < 2 ^ 31 by omega), (hT.2 j hj).1]
  exact ⟨vp_in_nI (by omega) (by decide), H _ _⟩
theorem oc_sumL (hy : y < 48) (ha : oc_ok a) (hb : oc_ok b) (hc : oc_ok c) (hu : u < 192) (hv : v < 192) (hw : w < 192) (hB : oc_B y u v w a b c a3 a4 a6 a7 a8 a9) (H : ∀ (k' : Int32) (b3 b4 b5 b6 b7 b8 b9 : Nat → Int32), post (a + b + c) (z, k', a1, a2, b3, b4, b5, b6, b7, b8, b9)) : wpX_sum post (z, k, a1, a2, a3, a4, a5, a6, a7, a8, a9) 47 0 := by
  unfold wpX_sum
  refine oc_isView (y := 47) (by decide) (br_f (by decide) (oc_isCell (y := 0) (by decide) (br_f (by decide) (oc_last hy ha hb hc hu hv hw hB (fun t k' b3 b4 b5 b6 b7 b8 b9 ht h7 => ?_)))))
  show vp_in (192 * nI t + nI 0) 960 ∧ post (b7 (192 * nI t + nI 0).toNatClampNeg) _
  rw [oc_192a, nI_clamp (show 192 * t + 0 < 2 ^ 31 by omega), h7]
  exact ⟨vp_in_nI (by omega) (by decide), H _ _ _ _ _ _ _ _⟩
theorem oc_best (hy : y < 48) (hu : u < 192) (hv : v < 192) (hw : w < 192) (hB : oc_B y u v w a b c a3 a4 a6 a7 a8 a9) (H : ∀ (m : Nat) (k' : Int32) (a5' : Nat → Int32), oc_best3 (oc_s true true true (oc_sn y u) (oc_sn y v) (oc_sn y w) a b c) (oc_sn y u) (oc_sn y v) (oc_sn y w) m → post (nI m) (z, k', a1, a2, a3, a4, a5', a6, a7, a8, a9)) : wpX_best post (z, k, a1, a2, a3, a4, a5, a6, a7, a8, a9) (nI y) := by
  unfold wpX_best
  refine oc_isView hy (br_f (by decide) (oc_slot hy hu hv hw hB (fun t k' a5' ht hT => ?_)))
  have hf := oc_sn_lt (y := y) hu
  have hg := oc_sn_lt (y := y) hv
  have hh := oc_sn_lt (y := y) hw
  refine pk_loop (fun n i x => wX_best_21 post (nI t) z k' a1 a2 a3 a4 a5' a6 a7 a8 a9 n x (nI i)) (oc_bI (oc_s true true true (oc_sn y u) (oc_sn y v) (oc_sn y w) a b c) (oc_sn y u) (oc_sn y v) (oc_sn y w)) 192 0 (-2) (by omega) (Or.inl ⟨rfl, by omega, by omega, by omega⟩) ?_ ?_
  · intro n x hx
    refine pk_le 192 192 (fun _ => ?_) (fun y => absurd y (by omega))
    rcases hx with ⟨_, h1, _⟩ | ⟨m, rfl, hm, h1, h2, h3, h4⟩
    · omega
    · exact H m _ _ ⟨h1, h2 hf, h3 hg, h4 hh⟩
  · intro n i x hi hx hk
    have ec : (nI (192 * t + i)).toNatClampNeg = 192 * t + i := nI_clamp (by omega)
    have iv : vp_in (nI (192 * t + i)) 960 := vp_in_nI (by omega) (by decide)
    obtain ⟨g6, g7, _, _⟩ := hT.2 i hi
    have hn3 : oc_n true true true (oc_sn y u) (oc_sn y v) (oc_sn y w) i ≤ 3 := oc_n_le
    refine pk_le 192 i (fun y => absurd y (by omega)) (fun _ => nm_r (oc_192a t i) ⟨iv, ?_⟩)
    rw [ec, g6, g7]
    have g7' : ∀ m, m < 192 → a7 (192 * t + m) = oc_s true true true (oc_sn y u) (oc_sn y v) (oc_sn y w) a b c m := fun m hm => (hT.2 m hm).2.1
    clear hT g6 g7 H
    generalize oc_s true true true (oc_sn y u) (oc_sn y v) (oc_sn y w) a b c = S at *
    generalize oc_sn y u = f at *
    generalize oc_sn y v = g at *
    generalize oc_sn y w = h at *
    have C : oc_n true true true f g h i ≤ 0 → oc_bI S f g h (i + 1) x := by
      intro e
      obtain ⟨n1, n2, n3⟩ := oc_nz (Nat.le_zero.mp e)
      rcases hx with ⟨h0, h1, h2, h3⟩ | ⟨m, h0, hm, h1, h2, h3, h4⟩
      · exact Or.inl ⟨h0, by omega, by omega, by omega⟩
      · exact Or.inr ⟨m, h0, by omega, h1, fun q => h2 (by omega), fun q => h3 (by omega), fun q => h4 (by omega)⟩
    refine pk_le (oc_n true true true f g h i) 0 (fun e => nm_r (nI_1 i) (hk x (C e))) (fun e => ?_)
    have hin := oc_nnz e
    have R : ∀ j, j = i → oc_bt S i j := fun j ej => Or.inr ⟨by rw [ej], by omega⟩
    rcases hx with ⟨h0, h1, h2, h3⟩ | ⟨m, h0, hm, h1, h2, h3, h4⟩
    · subst h0
      refine br_t (by decide) (nm_r (nI_1 i) (hk (nI i) (Or.inr ⟨i, rfl, by omega, ?_, fun q => R _ (by omega), fun q => R _ (by omega), fun q => R _ (by omega)⟩)))
      rcases hin with e1 | e1 | e1
      · exact Or.inl e1.symm
      · exact Or.inr (Or.inl e1.symm)
      · exact Or.inr (Or.inr e1.symm)
    · subst h0
      rw [oc_192a t m, nI_clamp (show 192 * t + m < 2 ^ 31 by omega), g7' m (by omega)]
      refine br_f (nI_pos (by omega)) ⟨iv, vp_in_nI (by omega) (by decide), br_c (fun q => ?_) (fun q => ?_)⟩
      · rw [Int32.le_iff_toInt_le] at q
        have B : ∀ j, j < i + 1 → (j < i → oc_bt S m j) → oc_bt S m j := by
          intro j hj hb
          by_cases ej : j = i
          · subst ej
            unfold oc_bt
            omega
          · exact hb (by omega)
        exact nm_r (nI_1 i) (hk _ (Or.inr ⟨m, rfl, by omega, h1, fun x => B _ x h2, fun x => B _ x h3, fun x => B _ x h4⟩))
      · rw [Int32.le_iff_toInt_le] at q
        have B : ∀ j, j < i + 1 → (j < i → oc_bt S m j) → oc_bt S i j := by
          intro j hj hb
          by_cases ej : j = i
          · exact R j ej
          · have t1 := hb (by omega)
            unfold oc_bt at t1 ⊢
            omega
        refine nm_r (nI_1 i) (hk _ (Or.inr ⟨i, rfl, by omega, ?_, fun x => B _ x h2, fun x => B _ x h3, fun x => B _ x h4⟩))
        rcases hin with e1 | e1 | e1
        · exact Or.inl e1.symm
        · exact Or.inr (Or.inl e1.symm)
        · exact Or.inr (Or.inr e1.symm)
theorem oc_having {d : Int32} (hy : y < 48) (hu : u < 192) (hv : v < 192) (hw : w < 192) (hB : oc_B y u v w a b c a3 a4 a6 a7 a8 a9) (H : ∀ (k' : Int32) (a5' : Nat → Int32), post (nI (oc_hv (fun j => decide (¬ oc_s true true true (oc_sn y u) (oc_sn y v) (oc_sn y w) a b c j < d)) (oc_sn y u) (oc_sn y v) (oc_sn y w) 192)) (z, k', a1, a2, a3, a4, a5', a6, a7, a8, a9)) : wpX_having post (z, k, a1, a2, a3, a4, a5, a6, a7, a8, a9) (nI y) d := by
  unfold wpX_having
  refine oc_isView hy (br_f (by decide) (oc_slot hy hu hv hw hB (fun t k' a5' ht hT => nm_r (oc_192 t) ?_)))
  refine pk_loop (fun n i x => wX_having_25 post d (nI t) z k' a1 a2 a3 a4 a5' a6 a7 a8 a9 n x (nI (192 * t + i))) (fun i x => x = nI (oc_hv (fun j => decide (¬ oc_s true true true (oc_sn y u) (oc_sn y v) (oc_sn y w) a b c j < d)) (oc_sn y u) (oc_sn y v) (oc_sn y w) i)) 192 0 0 (by omega) ?_ ?_ ?_
  · show 0 = nI (oc_hv _ _ _ _ 0)
    unfold oc_hv
    rw [if_neg (fun x => absurd x.1 (by omega)), if_neg (fun x => absurd x.1 (by omega)), if_neg (fun x => absurd x.1 (by omega))]
    rfl
  · intro n x hx
    subst hx
    exact pk_le (192 * t + 192) (192 * t + 192) (fun _ => H _ _) (fun y => absurd y (by omega)) (oc_192b t)
  · intro n i x hi hx hk
    have ec : (nI (192 * t + i)).toNatClampNeg = 192 * t + i := nI_clamp (by omega)
    have iv : vp_in (nI (192 * t + i)) 960 := vp_in_nI (by omega) (by decide)
    obtain ⟨g6, g7, _, _⟩ := hT.2 i hi
    have hn3 : oc_n true true true (oc_sn y u) (oc_sn y v) (oc_sn y w) i ≤ 3 := oc_n_le
    subst hx
    refine pk_le (192 * t + 192) (192 * t + i) (fun y => absurd y (by omega)) (fun _ => ⟨iv, ?_⟩) (oc_192b t)
    rw [ec, g6, g7]
    refine pk_le (oc_n true true true (oc_sn y u) (oc_sn y v) (oc_sn y w) i) 0 (fun e => nm_r (Int32.add_zero _) (nm_r (nI_1 _) (hk _ ?_))) (fun e => ⟨iv, br_c (fun q => nm_r (Int32.add_zero _) (nm_r (nI_1 _) (hk _ ?_))) (fun q => nm_r (nI_1 _) (nm_r (nI_1 _) (hk _ ?_)))⟩)
    · obtain ⟨n1, n2, n3⟩ := oc_nz (Nat.le_zero.mp e)
      exact congrArg nI (oc_hv_n n1 n2 n3).symm
    · exact congrArg nI (oc_hv_f (decide_eq_false (fun x => x q))).symm
    · exact congrArg nI (oc_hv_t (oc_nnz e) (decide_eq_true q)).symm
theorem oc_next (hy : y < 48) (hu : u < 192) (hv : v < 192) (hw : w < 192) (hB : oc_B y u v w a b c a3 a4 a6 a7 a8 a9) (H : ∀ (k' : Int32) (a5' : Nat → Int32), post (nI (min (min (oc_sn y u) (oc_sn y v)) (oc_sn y w))) (z, k', a1, a2, a3, a4, a5', a6, a7, a8, a9)) : wpX_next post (z, k, a1, a2, a3, a4, a5, a6, a7, a8, a9) (nI y) (-1) := by
  unfold wpX_next
  refine oc_isView hy (br_f (by decide) (oc_slot hy hu hv hw hB (fun t k' a5' ht hT => br_t (Int32.le_refl _) ?_)))
  have hf := oc_sn_lt (y := y) hu
  have hg := oc_sn_lt (y := y) hv
  have hh := oc_sn_lt (y := y) hw
  refine pk_loop (σ := Unit) (fun n i _ => wX_next_30 post (nI t) (-1) z k' a1 a2 a3 a4 a5' a6 a7 a8 a9 n (nI i)) (fun _ _ => True) (min (min (oc_sn y u) (oc_sn y v)) (oc_sn y w)) 0 () (by omega) trivial ?_ ?_
  · intro n _ _
    have hm : min (min (oc_sn y u) (oc_sn y v)) (oc_sn y w) < 192 := by omega
    have hn3 : oc_n true true true (oc_sn y u) (oc_sn y v) (oc_sn y w) (min (min (oc_sn y u) (oc_sn y v)) (oc_sn y w)) ≤ 3 := oc_n_le
    obtain ⟨g6, _, _, _⟩ := hT.2 _ hm
    refine pk_le 192 (min (min (oc_sn y u) (oc_sn y v)) (oc_sn y w)) (fun y => absurd y (by omega)) (fun _ => br_f (oc_nle1 hm) ?_)
    rw [oc_192a t, nI_clamp (show 192 * t + min (min (oc_sn y u) (oc_sn y v)) (oc_sn y w) < 2 ^ 31 by omega), g6]
    refine ⟨vp_in_nI (by omega) (by decide), pk_le (oc_n true true true (oc_sn y u) (oc_sn y v) (oc_sn y w) (min (min (oc_sn y u) (oc_sn y v)) (oc_sn y w))) 0 (fun e => ?_) (fun _ => H _ _)⟩
    have := oc_nz (Nat.le_zero.mp e)
    omega
  · intro n i _ hi _ hk
    have hn3 : oc_n true true true (oc_sn y u) (oc_sn y v) (oc_sn y w) i ≤ 3 := oc_n_le
    obtain ⟨g6, _, _, _⟩ := hT.2 i (by omega)
    refine pk_le 192 i (fun y => absurd y (by omega)) (fun _ => br_f (oc_nle1 (by omega)) ?_)
    rw [oc_192a t, nI_clamp (show 192 * t + i < 2 ^ 31 by omega), g6]
    refine ⟨vp_in_nI (by omega) (by decide), pk_le (oc_n true true true (oc_sn y u) (oc_sn y v) (oc_sn y w) i) 0 (fun e => nm_r (nI_1 i) (hk () trivial)) (fun e => ?_)⟩
    have := oc_nnz e
    omega
end
end
section
/-! the law, stage by stage, from its end -/
def oc_i (m n : Nat) : Int32 := if m = n then 1 else 0
theorem oc_i_1 {m n : Nat} (e : m = n) : oc_i m n = 1 := if_pos e
theorem oc_i_0 {m n : Nat} (e : m ≠ n) : oc_i m n = 0 := if_neg e
theorem oc_ib {m n : Nat} {A B : Prop} (hA : m ≠ n → A) (hB : m = n → B) : (oc_i m n = 0 → A) ∧ (¬ oc_i m n = 0 → B) := by
  by_cases e : m = n
  · rw [oc_i_1 e]
    exact br_f (by decide) (hB e)
  · rw [oc_i_0 e]
    exact br_t rfl (hA e)
theorem oc_w_t (g f : Nat) (x e : Int32) : oc_w true g f x e = if f = g then x else e := by
  unfold oc_w
  by_cases h : f = g
  · rw [if_pos h, if_pos ⟨rfl, h.symm⟩]
  · rw [if_neg h, if_neg (fun z => h z.2.symm)]
theorem oc_w_t' (g f : Nat) (x e : Int32) : oc_w true g f x e = if g = f then x else e := by
  unfold oc_w
  by_cases h : g = f
  · rw [if_pos h, if_pos ⟨rfl, h⟩]
  · rw [if_neg h, if_neg (fun z => h z.2)]
theorem oc_d_t (g f : Nat) : nI (oc_d true g f) = oc_i f g := by
  unfold oc_d oc_i
  by_cases h : f = g
  · rw [if_pos h, if_pos ⟨rfl, h.symm⟩]
    rfl
  · rw [if_neg h, if_neg (fun z => h z.2.symm)]
    rfl
theorem oc_SF (f g h : Nat) (a b c : Int32) : oc_s true true true f g h a b c f = a + (if f = g then b else 0) + (if f = h then c else 0) := by
  unfold oc_s
  rw [oc_w_1, oc_w_t g f, oc_w_t h f]
theorem oc_SG (f g h : Nat) (a b c : Int32) : oc_s true true true f g h a b c g = b + (if f = g then a else 0) + (if g = h then c else 0) := by
  unfold oc_s
  rw [oc_w_1, oc_w_t' f g, oc_w_t h g, Int32.add_comm b]
theorem oc_SH (f g h : Nat) (a b c : Int32) : oc_s true true true f g h a b c h = c + (if f = h then a else 0) + (if g = h then b else 0) := by
  unfold oc_s
  rw [oc_w_1, oc_w_t' f h, oc_w_t' g h]
  exact (Int32.add_comm _ _).trans (Int32.add_assoc _ _ _).symm
theorem oc_ok_mn {a b : Int32} (ha : oc_ok a) (hb : oc_ok b) : oc_ok (oc_mn a b) := by
  unfold oc_ok at *
  rw [oc_mn_i]
  omega
theorem oc_ok_mx {a b : Int32} (ha : oc_ok a) (hb : oc_ok b) : oc_ok (oc_mx a b) := by
  unfold oc_ok at *
  rw [oc_mx_i]
  omega
theorem oc_LF (f g h : Nat) {a b c : Int32} (ha : oc_ok a) (hb : oc_ok b) : oc_l true true true f g h a b c f = if f = h then oc_mn (if f = g then oc_mn a b else a) c else (if f = g then oc_mn a b else a) := by
  unfold oc_l
  rw [oc_w_1, oc_w_t g f, oc_w_t h f, oc_mn_l ha]
  by_cases h1 : f = g
  · rw [if_pos h1, if_pos h1]
    by_cases h2 : f = h
    · rw [if_pos h2, if_pos h2]
    · rw [if_neg h2, if_neg h2, oc_mn_r (oc_ok_mn ha hb)]
  · rw [if_neg h1, if_neg h1, oc_mn_r ha]
    by_cases h2 : f = h
    · rw [if_pos h2, if_pos h2]
    · rw [if_neg h2, if_neg h2, oc_mn_r ha]
theorem oc_HF (f g h : Nat) {a b c : Int32} (ha : oc_ok a) (hb : oc_ok b) : oc_h true true true f g h a b c f = if f = h then oc_mx (if f = g then oc_mx a b else a) c else (if f = g then oc_mx a b else a) := by
  unfold oc_h
  rw [oc_w_1, oc_w_t g f, oc_w_t h f, oc_mx_l ha]
  by_cases h1 : f = g
  · rw [if_pos h1, if_pos h1]
    by_cases h2 : f = h
    · rw [if_pos h2, if_pos h2]
    · rw [if_neg h2, if_neg h2, oc_mx_r (oc_ok_mx ha hb)]
  · rw [if_neg h1, if_neg h1, oc_mx_r ha]
    by_cases h2 : f = h
    · rw [if_pos h2, if_pos h2]
    · rw [if_neg h2, if_neg h2, oc_mx_r ha]
theorem oc_cnt (f g h : Nat) : nI (oc_n true true true f g h f) = 1 + oc_i f g + oc_i f h := by
  unfold oc_n
  rw [oc_d_1, ← nI_add, ← nI_add, oc_d_t, oc_d_t]
  rfl
theorem oc_f_t (f g h : Nat) : oc_f true true true f g h = 1 + (if f = g then 0 else 1) + (if f ≠ h ∧ g ≠ h then 1 else 0) := by
  unfold oc_f
  by_cases h1 : f = g <;> by_cases h2 : f = h <;> by_cases h3 : g = h <;> simp [h1, h2, h3]
theorem oc_hv192 {G : Nat → Bool} {f g h : Nat} (hf : f < 192) (hg : g < 192) (hh : h < 192) : oc_hv G f g h 192 = (if G f = true then 1 else 0) + (if f ≠ g ∧ G g = true then 1 else 0) + (if f ≠ h ∧ g ≠ h ∧ G h = true then 1 else 0) := by
  unfold oc_hv
  simp only [hf, hg, hh, true_and]
theorem oc_b3h {S : Nat → Int32} {f g h q : Nat} (hq : oc_bt S q f ∧ oc_bt S q g) (l : (S q).toInt < (S h).toInt ∨ ((S q).toInt = (S h).toInt ∧ h ≤ q)) : oc_best3 S f g h h := by
  obtain ⟨h1, h2⟩ := hq
  refine ⟨Or.inr (Or.inr rfl), ?_, ?_, Or.inr ⟨rfl, Nat.le_refl _⟩⟩
  · unfold oc_bt at *
    omega
  · unfold oc_bt at *
    omega
def oc_C (y u v w : Nat) (a b c : Int32) (a3 a4 a6 a7 a8 a9 : Nat → Int32) : Prop := y < 48 ∧ u < 192 ∧ v < 192 ∧ w < 192 ∧ oc_ok a ∧ oc_ok b ∧ oc_ok c ∧ oc_B y u v w a b c a3 a4 a6 a7 a8 a9
def oc_A (y u v w : Nat) (a b c : Int32) (a3 a4 a6 a7 a8 a9 : Nat → Int32) : Prop := y < 48 ∧ u < 192 ∧ v < 192 ∧ w < 192 ∧ oc_ok a ∧ oc_ok b ∧ oc_ok c ∧ a3 0 = 0 ∧ (∀ i, 1 ≤ i → i < 5 → a3 i = -1) ∧ oc_S 0 true true true u v w a b c a4 a6 a7 a8 a9
section
variable {post : Int32 → St0 → Prop} {mc ms kc ks : Nat} {z k z0 z1 z2 : Int32} {a1 a2 a3 a4 a5 a6 a7 a8 a9 : Nat → Int32} {y u v w : Nat} {a b c : Int32}
theorem oc_660 (hp : post 1 ()) (C : oc_C y u v w a b c a3 a4 a6 a7 a8 a9) (e : z1 + z0 = nI (oc_hv (fun j => decide (¬ oc_s true true true (oc_sn y u) (oc_sn y v) (oc_sn y w) a b c j < b)) (oc_sn y u) (oc_sn y v) (oc_sn y w) 192)) : wL_lawOf_660 post mc ms (nI y) a b c (nI (oc_sn y u)) (nI (oc_sn y v)) (nI (oc_sn y w)) (nI (oc_f true true true (oc_sn y u) (oc_sn y v) (oc_sn y w))) (oc_s true true true (oc_sn y u) (oc_sn y v) (oc_sn y w) a b c (oc_sn y u)) z0 z1 kc ks z k a1 a2 a3 a4 a5 a6 a7 a8 a9 := by
  obtain ⟨hy, hu, hv, hw, ha, hb, hc, hB⟩ := C
  unfold wL_lawOf_660
  exact nm_r e (oc_having hy hu hv hw hB (fun k1 s1 => oc_lessN (oc_sn_lt hu) (oc_sn_lt hv) (oc_lessN (Nat.lt_of_le_of_lt (Nat.min_le_left _ _) (oc_sn_lt hu)) (oc_sn_lt hw) (oc_next hy hu hv hw hB (fun k2 s2 => oc_prepare hy hu hv hw hB (fun k3 s3 => oc_sum (oc_sn_lt hu) hy hu hv hw hB (fun k4 s4 => oc_sumL hy ha hb hc hu hv hw hB (fun k5 b3 b4 b5 b6 b7 b8 b9 => br_t rfl (br_t rfl (br_t rfl (br_t rfl (br_t rfl hp))))))))))))
theorem oc_637 (hp : post 1 ()) (C : oc_C y u v w a b c a3 a4 a6 a7 a8 a9) {m : Nat} (e : z1 + z0 = nI m) (hm : m + (if (oc_sn y u) ≠ (oc_sn y w) ∧ (oc_sn y v) ≠ (oc_sn y w) ∧ (fun j => decide (¬ oc_s true true true (oc_sn y u) (oc_sn y v) (oc_sn y w) a b c j < b)) (oc_sn y w) = true then 1 else 0) = oc_hv (fun j => decide (¬ oc_s true true true (oc_sn y u) (oc_sn y v) (oc_sn y w) a b c j < b)) (oc_sn y u) (oc_sn y v) (oc_sn y w) 192) : wL_lawOf_637 post mc ms (nI y) a b c (nI (oc_sn y u)) (nI (oc_sn y v)) (nI (oc_sn y w)) (oc_i (oc_sn y u) (oc_sn y w)) (oc_i (oc_sn y v) (oc_sn y w)) (nI (oc_f true true true (oc_sn y u) (oc_sn y v) (oc_sn y w))) (oc_s true true true (oc_sn y u) (oc_sn y v) (oc_sn y w) a b c (oc_sn y u)) (oc_s true true true (oc_sn y u) (oc_sn y v) (oc_sn y w) a b c (oc_sn y w)) z0 z1 kc ks z k a1 a2 a3 a4 a5 a6 a7 a8 a9 := by
  unfold wL_lawOf_637
  refine oc_ib (fun n1 => oc_ib (fun n2 => br_c (fun l => ?_) (fun l => ?_)) (fun e2 => ?_)) (fun e1 => ?_)
  · refine oc_660 hp C (z0 := 0) ?_
    rw [e, Int32.add_zero, ← hm, if_neg (show ¬ ((oc_sn y u) ≠ (oc_sn y w) ∧ (oc_sn y v) ≠ (oc_sn y w) ∧ (fun j => decide (¬ oc_s true true true (oc_sn y u) (oc_sn y v) (oc_sn y w) a b c j < b)) (oc_sn y w) = true) from fun t => absurd l (of_decide_eq_true t.2.2))]
    rfl
  · refine oc_660 hp C (z0 := 1) ?_
    rw [e, nI_1, ← hm, if_pos ⟨n1, n2, decide_eq_true l⟩]
  · refine oc_660 hp C (z0 := 0) ?_
    rw [e, Int32.add_zero, ← hm, if_neg (fun t => t.2.1 e2)]
    rfl
  · refine oc_660 hp C (z0 := 0) ?_
    rw [e, Int32.add_zero, ← hm, if_neg (fun t => t.1 e1)]
    rfl
theorem oc_620 (hp : post 1 ()) (C : oc_C y u v w a b c a3 a4 a6 a7 a8 a9) {m : Nat} (e : z0 = nI m) (hm : m + (if (oc_sn y u) ≠ (oc_sn y v) ∧ (fun j => decide (¬ oc_s true true true (oc_sn y u) (oc_sn y v) (oc_sn y w) a b c j < b)) (oc_sn y v) = true then 1 else 0) + (if (oc_sn y u) ≠ (oc_sn y w) ∧ (oc_sn y v) ≠ (oc_sn y w) ∧ (fun j => decide (¬ oc_s true true true (oc_sn y u) (oc_sn y v) (oc_sn y w) a b c j < b)) (oc_sn y w) = true then 1 else 0) = oc_hv (fun j => decide (¬ oc_s true true true (oc_sn y u) (oc_sn y v) (oc_sn y w) a b c j < b)) (oc_sn y u) (oc_sn y v) (oc_sn y w) 192) : wL_lawOf_620 post mc ms (nI y) a b c (nI (oc_sn y u)) (nI (oc_sn y v)) (nI (oc_sn y w)) (oc_i (oc_sn y u) (oc_sn y v)) (oc_i (oc_sn y u) (oc_sn y w)) (oc_i (oc_sn y v) (oc_sn y w)) (nI (oc_f true true true (oc_sn y u) (oc_sn y v) (oc_sn y w))) (oc_s true true true (oc_sn y u) (oc_sn y v) (oc_sn y w) a b c (oc_sn y u)) (oc_s true true true (oc_sn y u) (oc_sn y v) (oc_sn y w) a b c (oc_sn y v)) (oc_s true true true (oc_sn y u) (oc_sn y v) (oc_sn y w) a b c (oc_sn y w)) z0 kc ks z k a1 a2 a3 a4 a5 a6 a7 a8 a9 := by
  unfold wL_lawOf_620
  refine oc_ib (fun n1 => br_c (fun l => ?_) (fun l => ?_)) (fun e1 => ?_)
  · refine oc_637 hp C (z0 := 0) (m := m) (by rw [e, Int32.add_zero]) ?_
    rw [if_neg (show ¬ ((oc_sn y u) ≠ (oc_sn y v) ∧ (fun j => decide (¬ oc_s true true true (oc_sn y u) (oc_sn y v) (oc_sn y w) a b c j < b)) (oc_sn y v) = true) from fun t => absurd l (of_decide_eq_true t.2))] at hm
    exact hm
  · refine oc_637 hp C (z0 := 1) (m := m + 1) (by rw [e, nI_1]) ?_
    rw [if_pos ⟨n1, decide_eq_true l⟩] at hm
    exact hm
  · refine oc_637 hp C (z0 := 0) (m := m) (by rw [e, Int32.add_zero]) ?_
    rw [if_neg (fun t => t.1 e1)] at hm
    exact hm
theorem oc_590 (hp : post 1 ()) (C : oc_C y u v w a b c a3 a4 a6 a7 a8 a9) {q : Nat} (hq : oc_best3 (oc_s true true true (oc_sn y u) (oc_sn y v) (oc_sn y w) a b c) (oc_sn y u) (oc_sn y v) (oc_sn y w) q) : wL_lawOf_590 post mc ms (nI y) a b c (nI (oc_sn y u)) (nI (oc_sn y v)) (nI (oc_sn y w)) (oc_i (oc_sn y u) (oc_sn y v)) (oc_i (oc_sn y u) (oc_sn y w)) (oc_i (oc_sn y v) (oc_sn y w)) (nI (oc_f true true true (oc_sn y u) (oc_sn y v) (oc_sn y w))) (oc_s true true true (oc_sn y u) (oc_sn y v) (oc_sn y w) a b c (oc_sn y u)) (oc_s true true true (oc_sn y u) (oc_sn y v) (oc_sn y w) a b c (oc_sn y v)) (oc_s true true true (oc_sn y u) (oc_sn y v) (oc_sn y w) a b c (oc_sn y w)) (nI q) kc ks z k a1 a2 a3 a4 a5 a6 a7 a8 a9 := by
  have C' := C
  obtain ⟨hy, hu, hv, hw, ha, hb, hc, hB⟩ := C
  unfold wL_lawOf_590
  have hv192 := oc_hv192 (G := (fun j => decide (¬ oc_s true true true (oc_sn y u) (oc_sn y v) (oc_sn y w) a b c j < b))) (oc_sn_lt (y := y) hu) (oc_sn_lt (y := y) hv) (oc_sn_lt (y := y) hw)
  refine oc_best hy hu hv hw hB (fun m k1 s1 hm => br_t (congrArg nI (oc_best_u hm hq)) (br_c (fun l => oc_620 hp C' (m := 0) rfl ?_) (fun l => oc_620 hp C' (m := 1) rfl ?_)))
  · rw [hv192, if_neg (show ¬ ((fun j => decide (¬ oc_s true true true (oc_sn y u) (oc_sn y v) (oc_sn y w) a b c j < b)) (oc_sn y u) = true) from fun t => absurd l (of_decide_eq_true t))]
  · rw [hv192, if_pos (decide_eq_true l)]
theorem oc_565 (hp : post 1 ()) (C : oc_C y u v w a b c a3 a4 a6 a7 a8 a9) {q : Nat} (hF : q = (oc_sn y u) ∨ q = (oc_sn y v)) (hq : oc_bt (oc_s true true true (oc_sn y u) (oc_sn y v) (oc_sn y w) a b c) q (oc_sn y u) ∧ oc_bt (oc_s true true true (oc_sn y u) (oc_sn y v) (oc_sn y w) a b c) q (oc_sn y v)) : wL_lawOf_565 post mc ms (nI y) a b c (nI (oc_sn y u)) (nI (oc_sn y v)) (nI (oc_sn y w)) (oc_i (oc_sn y u) (oc_sn y v)) (oc_i (oc_sn y u) (oc_sn y w)) (oc_i (oc_sn y v) (oc_sn y w)) (nI (oc_f true true true (oc_sn y u) (oc_sn y v) (oc_sn y w))) (oc_s true true true (oc_sn y u) (oc_sn y v) (oc_sn y w) a b c (oc_sn y u)) (oc_s true true true (oc_sn y u) (oc_sn y v) (oc_sn y w) a b c (oc_sn y v)) (oc_s true true true (oc_sn y u) (oc_sn y v) (oc_sn y w) a b c (oc_sn y w)) (nI q) (oc_s true true true (oc_sn y u) (oc_sn y v) (oc_sn y w) a b c q) kc ks z k a1 a2 a3 a4 a5 a6 a7 a8 a9 := by
  have hq192 : q < 192 := by
    rcases hF with e | e
    · rw [e]
      exact oc_sn_lt C.2.1
    · rw [e]
      exact oc_sn_lt C.2.2.1
  have hh : (oc_sn y w) < 192 := oc_sn_lt C.2.2.2.1
  unfold wL_lawOf_565
  refine br_c (fun l => oc_590 hp C (oc_b3h hq (Or.inl (Int32.lt_iff_toInt_lt.mp l)))) (fun l => br_c (fun e => pk_le q (oc_sn y w) (fun l2 => oc_590 hp C ?_) (fun l2 => oc_590 hp C (oc_b3h hq (Or.inr ⟨congrArg Int32.toInt e.symm, Nat.le_of_lt l2⟩)))) (fun e => oc_590 hp C ?_))
  · refine ⟨?_, hq.1, hq.2, Or.inr ⟨congrArg Int32.toInt e, l2⟩⟩
    rcases hF with t | t
    · exact Or.inl t
    · exact Or.inr (Or.inl t)
  · refine ⟨?_, hq.1, hq.2, Or.inl ?_⟩
    · rcases hF with t | t
      · exact Or.inl t
      · exact Or.inr (Or.inl t)
    · rw [Int32.lt_iff_toInt_lt] at l
      rw [← Int32.toInt_inj] at e
      omega
theorem oc_522 (hp : post 1 ()) (C : oc_C y u v w a b c a3 a4 a6 a7 a8 a9) (e : z2 = z1 + z0) : wL_lawOf_522 post mc ms (nI y) a b c (nI (oc_sn y u)) (nI (oc_sn y v)) (nI (oc_sn y w)) (oc_i (oc_sn y u) (oc_sn y v)) (oc_i (oc_sn y u) (oc_sn y w)) (oc_i (oc_sn y v) (oc_sn y w)) (nI (oc_f true true true (oc_sn y u) (oc_sn y v) (oc_sn y w))) (oc_s true true true (oc_sn y u) (oc_sn y v) (oc_sn y w) a b c (oc_sn y u)) (oc_s true true true (oc_sn y u) (oc_sn y v) (oc_sn y w) a b c (oc_sn y v)) (oc_s true true true (oc_sn y u) (oc_sn y v) (oc_sn y w) a b c (oc_sn y w)) z0 z1 z2 kc ks z k a1 a2 a3 a4 a5 a6 a7 a8 a9 := by
  have hf : (oc_sn y u) < 192 := oc_sn_lt C.2.1
  have hg : (oc_sn y v) < 192 := oc_sn_lt C.2.2.1
  unfold wL_lawOf_522
  have A1 : ∀ m, oc_bt (oc_s true true true (oc_sn y u) (oc_sn y v) (oc_sn y w) a b c) m m := fun m => Or.inr ⟨rfl, Nat.le_refl m⟩
  refine br_t e (br_c (fun l => oc_565 hp C (q := (oc_sn y v)) (Or.inr rfl) ⟨Or.inl (Int32.lt_iff_toInt_lt.mp l), A1 _⟩) (fun l => br_c (fun e2 => pk_le (oc_sn y u) (oc_sn y v) (fun l2 => oc_565 hp C (q := (oc_sn y u)) (Or.inl rfl) ⟨A1 _, Or.inr ⟨congrArg Int32.toInt e2, l2⟩⟩) (fun l2 => oc_565 hp C (q := (oc_sn y v)) (Or.inr rfl) ⟨Or.inr ⟨congrArg Int32.toInt e2.symm, Nat.le_of_lt l2⟩, A1 _⟩)) (fun e2 => oc_565 hp C (q := (oc_sn y u)) (Or.inl rfl) ⟨A1 _, Or.inl ?_⟩)))
  rw [Int32.lt_iff_toInt_lt] at l
  rw [← Int32.toInt_inj] at e2
  omega
theorem oc_511 (hp : post 1 ()) (C : oc_C y u v w a b c a3 a4 a6 a7 a8 a9) (e : z2 = z1 + z0 + oc_i (oc_sn y u) (oc_sn y w)) : wL_lawOf_511 post mc ms (nI y) a b c (nI (oc_sn y u)) (nI (oc_sn y v)) (nI (oc_sn y w)) (oc_i (oc_sn y u) (oc_sn y v)) (oc_i (oc_sn y u) (oc_sn y w)) (oc_i (oc_sn y v) (oc_sn y w)) (nI (oc_f true true true (oc_sn y u) (oc_sn y v) (oc_sn y w))) (oc_s true true true (oc_sn y u) (oc_sn y v) (oc_sn y w) a b c (oc_sn y u)) (oc_s true true true (oc_sn y u) (oc_sn y v) (oc_sn y w) a b c (oc_sn y v)) (oc_s true true true (oc_sn y u) (oc_sn y v) (oc_sn y w) a b c (oc_sn y w)) z0 z1 z2 kc ks z k a1 a2 a3 a4 a5 a6 a7 a8 a9 := by
  unfold wL_lawOf_511
  exact oc_ib (fun n => oc_522 hp C (by rw [e, oc_i_0 n])) (fun n => oc_522 hp C (by rw [e, oc_i_1 n]))
theorem oc_451 (hp : post 1 ()) (C : oc_C y u v w a b c a3 a4 a6 a7 a8 a9) {x31 x32 : Int32} (e1 : oc_l true true true (oc_sn y u) (oc_sn y v) (oc_sn y w) a b c (oc_sn y u) = x31) (e2 : oc_h true true true (oc_sn y u) (oc_sn y v) (oc_sn y w) a b c (oc_sn y u) = x32) : wL_lawOf_451 post mc ms (nI y) a b c (nI (oc_sn y u)) (nI (oc_sn y v)) (nI (oc_sn y w)) (oc_i (oc_sn y u) (oc_sn y v)) (oc_i (oc_sn y u) (oc_sn y w)) (oc_i (oc_sn y v) (oc_sn y w)) (nI (oc_f true true true (oc_sn y u) (oc_sn y v) (oc_sn y w))) (oc_s true true true (oc_sn y u) (oc_sn y v) (oc_sn y w) a b c (oc_sn y u)) (oc_s true true true (oc_sn y u) (oc_sn y v) (oc_sn y w) a b c (oc_sn y v)) (oc_s true true true (oc_sn y u) (oc_sn y v) (oc_sn y w) a b c (oc_sn y w)) x31 x32 kc ks z k a1 a2 a3 a4 a5 a6 a7 a8 a9 := by
  have C' := C
  obtain ⟨hy, hu, hv, hw, ha, hb, hc, hB⟩ := C
  unfold wL_lawOf_451
  exact oc_least (oc_sn_lt hu) hy hu hv hw hB (fun k1 s1 => oc_most (oc_sn_lt hu) hy hu hv hw hB (fun k2 s2 => oc_count (oc_sn_lt hu) hy hu hv hw hB (fun k3 s3 => br_t e1 (br_t e2 (oc_ib (fun n => oc_511 hp C' (by rw [oc_cnt, oc_i_0 n])) (fun n => oc_511 hp C' (by rw [oc_cnt, oc_i_1 n])))))))
theorem oc_428 (hp : post 1 ()) (C : oc_C y u v w a b c a3 a4 a6 a7 a8 a9) {x31 x32 : Int32} (e1 : oc_l true true true (oc_sn y u) (oc_sn y v) (oc_sn y w) a b c (oc_sn y u) = if (oc_sn y u) = (oc_sn y w) then oc_mn x31 c else x31) (e2 : oc_h true true true (oc_sn y u) (oc_sn y v) (oc_sn y w) a b c (oc_sn y u) = if (oc_sn y u) = (oc_sn y w) then oc_mx x32 c else x32) : wL_lawOf_428 post mc ms (nI y) a b c (nI (oc_sn y u)) (nI (oc_sn y v)) (nI (oc_sn y w)) (oc_i (oc_sn y u) (oc_sn y v)) (oc_i (oc_sn y u) (oc_sn y w)) (oc_i (oc_sn y v) (oc_sn y w)) (nI (oc_f true true true (oc_sn y u) (oc_sn y v) (oc_sn y w))) (oc_s true true true (oc_sn y u) (oc_sn y v) (oc_sn y w) a b c (oc_sn y u)) (oc_s true true true (oc_sn y u) (oc_sn y v) (oc_sn y w) a b c (oc_sn y v)) (oc_s true true true (oc_sn y u) (oc_sn y v) (oc_sn y w) a b c (oc_sn y w)) x31 x32 kc ks z k a1 a2 a3 a4 a5 a6 a7 a8 a9 := by
  unfold wL_lawOf_428
  exact oc_ib (fun n => oc_451 hp C (by rw [e1, if_neg n]) (by rw [e2, if_neg n])) (fun n => oc_less (oc_more (oc_451 hp C (by rw [e1, if_pos n]) (by rw [e2, if_pos n]))))
theorem oc_338 (hp : post 1 ()) (C : oc_C y u v w a b c a3 a4 a6 a7 a8 a9) (e : z1 + z0 = (oc_s true true true (oc_sn y u) (oc_sn y v) (oc_sn y w) a b c (oc_sn y w))) : wL_lawOf_338 post mc ms (nI y) a b c (nI (oc_sn y u)) (nI (oc_sn y v)) (nI (oc_sn y w)) (oc_i (oc_sn y u) (oc_sn y v)) (oc_i (oc_sn y u) (oc_sn y w)) (oc_i (oc_sn y v) (oc_sn y w)) (nI (oc_f true true true (oc_sn y u) (oc_sn y v) (oc_sn y w))) (oc_s true true true (oc_sn y u) (oc_sn y v) (oc_sn y w) a b c (oc_sn y u)) (oc_s true true true (oc_sn y u) (oc_sn y v) (oc_sn y w) a b c (oc_sn y v)) z0 z1 kc ks z k a1 a2 a3 a4 a5 a6 a7 a8 a9 := by
  have C' := C
  obtain ⟨hy, hu, hv, hw, ha, hb, hc, hB⟩ := C
  unfold wL_lawOf_338
  refine nm_r e (oc_sum (oc_sn_lt hu) hy hu hv hw hB (fun k1 s1 => oc_sum (oc_sn_lt hv) hy hu hv hw hB (fun k2 s2 => oc_sum (oc_sn_lt hw) hy hu hv hw hB (fun k3 s3 => br_t rfl (br_t rfl (br_t rfl (oc_ib (fun n => oc_428 hp C' ?_ ?_) (fun n => oc_less (oc_more (oc_428 hp C' ?_ ?_))))))))))
  · rw [oc_LF _ _ _ ha hb, if_neg n]
  · rw [oc_HF _ _ _ ha hb, if_neg n]
  · rw [oc_LF _ _ _ ha hb, if_pos n]
  · rw [oc_HF _ _ _ ha hb, if_pos n]
theorem oc_326 (hp : post 1 ()) (C : oc_C y u v w a b c a3 a4 a6 a7 a8 a9) (e : z1 + z0 + (if (oc_sn y v) = (oc_sn y w) then b else 0) = (oc_s true true true (oc_sn y u) (oc_sn y v) (oc_sn y w) a b c (oc_sn y w))) : wL_lawOf_326 post mc ms (nI y) a b c (nI (oc_sn y u)) (nI (oc_sn y v)) (nI (oc_sn y w)) (oc_i (oc_sn y u) (oc_sn y v)) (oc_i (oc_sn y u) (oc_sn y w)) (oc_i (oc_sn y v) (oc_sn y w)) (nI (oc_f true true true (oc_sn y u) (oc_sn y v) (oc_sn y w))) (oc_s true true true (oc_sn y u) (oc_sn y v) (oc_sn y w) a b c (oc_sn y u)) (oc_s true true true (oc_sn y u) (oc_sn y v) (oc_sn y w) a b c (oc_sn y v)) z0 z1 kc ks z k a1 a2 a3 a4 a5 a6 a7 a8 a9 := by
  unfold wL_lawOf_326
  exact oc_ib (fun n => oc_338 hp C (by rw [← e, if_neg n])) (fun n => oc_338 hp C (by rw [← e, if_pos n]))
theorem oc_310 (hp : post 1 ()) (C : oc_C y u v w a b c a3 a4 a6 a7 a8 a9) (e : z1 + z0 = (oc_s true true true (oc_sn y u) (oc_sn y v) (oc_sn y w) a b c (oc_sn y v))) : wL_lawOf_310 post mc ms (nI y) a b c (nI (oc_sn y u)) (nI (oc_sn y v)) (nI (oc_sn y w)) (oc_i (oc_sn y u) (oc_sn y v)) (oc_i (oc_sn y u) (oc_sn y w)) (oc_i (oc_sn y v) (oc_sn y w)) (nI (oc_f true true true (oc_sn y u) (oc_sn y v) (oc_sn y w))) (oc_s true true true (oc_sn y u) (oc_sn y v) (oc_sn y w) a b c (oc_sn y u)) z0 z1 kc ks z k a1 a2 a3 a4 a5 a6 a7 a8 a9 := by
  unfold wL_lawOf_310
  exact nm_r e (oc_ib (fun n => oc_326 hp C (by rw [oc_SH, if_neg n])) (fun n => oc_326 hp C (by rw [oc_SH, if_pos n])))
theorem oc_298 (hp : post 1 ()) (C : oc_C y u v w a b c a3 a4 a6 a7 a8 a9) (e : z1 + z0 + (if (oc_sn y v) = (oc_sn y w) then c else 0) = (oc_s true true true (oc_sn y u) (oc_sn y v) (oc_sn y w) a b c (oc_sn y v))) : wL_lawOf_298 post mc ms (nI y) a b c (nI (oc_sn y u)) (nI (oc_sn y v)) (nI (oc_sn y w)) (oc_i (oc_sn y u) (oc_sn y v)) (oc_i (oc_sn y u) (oc_sn y w)) (oc_i (oc_sn y v) (oc_sn y w)) (nI (oc_f true true true (oc_sn y u) (oc_sn y v) (oc_sn y w))) (oc_s true true true (oc_sn y u) (oc_sn y v) (oc_sn y w) a b c (oc_sn y u)) z0 z1 kc ks z k a1 a2 a3 a4 a5 a6 a7 a8 a9 := by
  unfold wL_lawOf_298
  exact oc_ib (fun n => oc_310 hp C (by rw [← e, if_neg n])) (fun n => oc_310 hp C (by rw [← e, if_pos n]))
theorem oc_282 (hp : post 1 ()) (C : oc_C y u v w a b c a3 a4 a6 a7 a8 a9) (e : z1 + z0 = (oc_s true true true (oc_sn y u) (oc_sn y v) (oc_sn y w) a b c (oc_sn y u))) : wL_lawOf_282 post mc ms (nI y) a b c (nI (oc_sn y u)) (nI (oc_sn y v)) (nI (oc_sn y w)) (oc_i (oc_sn y u) (oc_sn y v)) (oc_i (oc_sn y u) (oc_sn y w)) (oc_i (oc_sn y v) (oc_sn y w)) (nI (oc_f true true true (oc_sn y u) (oc_sn y v) (oc_sn y w))) z0 z1 kc ks z k a1 a2 a3 a4 a5 a6 a7 a8 a9 := by
  unfold wL_lawOf_282
  exact nm_r e (oc_ib (fun n => oc_298 hp C (by rw [oc_SG, if_neg n])) (fun n => oc_298 hp C (by rw [oc_SG, if_pos n])))
theorem oc_270 (hp : post 1 ()) (C : oc_C y u v w a b c a3 a4 a6 a7 a8 a9) (e : z1 + z0 + (if (oc_sn y u) = (oc_sn y w) then c else 0) = (oc_s true true true (oc_sn y u) (oc_sn y v) (oc_sn y w) a b c (oc_sn y u))) : wL_lawOf_270 post mc ms (nI y) a b c (nI (oc_sn y u)) (nI (oc_sn y v)) (nI (oc_sn y w)) (oc_i (oc_sn y u) (oc_sn y v)) (oc_i (oc_sn y u) (oc_sn y w)) (oc_i (oc_sn y v) (oc_sn y w)) (nI (oc_f true true true (oc_sn y u) (oc_sn y v) (oc_sn y w))) z0 z1 kc ks z k a1 a2 a3 a4 a5 a6 a7 a8 a9 := by
  unfold wL_lawOf_270
  exact oc_ib (fun n => oc_282 hp C (by rw [← e, if_neg n])) (fun n => oc_282 hp C (by rw [← e, if_pos n]))
theorem oc_219 (hp : post 1 ()) (C : oc_A y u v w a b c a3 a4 a6 a7 a8 a9) (e : z1 + z0 = (nI (oc_f true true true (oc_sn y u) (oc_sn y v) (oc_sn y w)))) : wL_lawOf_219 post mc ms (nI y) a b c 0 1 2 (nI (oc_sn y u)) (nI (oc_sn y v)) (nI (oc_sn y w)) (oc_i (oc_sn y u) (oc_sn y v)) (oc_i (oc_sn y u) (oc_sn y w)) (oc_i (oc_sn y v) (oc_sn y w)) z0 z1 kc ks z k a1 a2 a3 a4 a5 a6 a7 a8 a9 := by
  obtain ⟨hy, hu, hv, hw, ha, hb, hc, h0, h1, hS⟩ := C
  unfold wL_lawOf_219
  exact nm_r e (oc_full1 hy ha hb hc hu hv hw h0 h1 hS (fun k1 b3 b4 b5 b6 b7 b8 b9 hB => br_t rfl (br_t rfl (br_t rfl (br_t rfl (oc_ib (fun n => oc_270 hp ⟨hy, hu, hv, hw, ha, hb, hc, hB⟩ (by rw [oc_SF, if_neg n])) (fun n => oc_270 hp ⟨hy, hu, hv, hw, ha, hb, hc, hB⟩ (by rw [oc_SF, if_pos n]))))))))
theorem oc_203 (hp : post 1 ()) (C : oc_A y u v w a b c a3 a4 a6 a7 a8 a9) {m : Nat} (e : z1 + z0 = nI m) (hm : oc_f true true true (oc_sn y u) (oc_sn y v) (oc_sn y w) = m + (if (oc_sn y u) ≠ (oc_sn y w) ∧ (oc_sn y v) ≠ (oc_sn y w) then 1 else 0)) : wL_lawOf_203 post mc ms (nI y) a b c 0 1 2 (nI (oc_sn y u)) (nI (oc_sn y v)) (nI (oc_sn y w)) (oc_i (oc_sn y u) (oc_sn y v)) (oc_i (oc_sn y u) (oc_sn y w)) (oc_i (oc_sn y v) (oc_sn y w)) z0 z1 kc ks z k a1 a2 a3 a4 a5 a6 a7 a8 a9 := by
  unfold wL_lawOf_203
  refine oc_ib (fun n1 => oc_ib (fun n2 => oc_219 hp C ?_) (fun n2 => oc_219 (z0 := 0) hp C ?_)) (fun n1 => oc_219 (z0 := 0) hp C ?_)
  · rw [e, nI_1, hm, if_pos ⟨n1, n2⟩]
  · rw [e, Int32.add_zero, hm, if_neg (fun t => t.2 n2)]
    rfl
  · rw [e, Int32.add_zero, hm, if_neg (fun t => t.1 n1)]
    rfl
theorem oc_190 (hp : post 1 ()) (C : oc_A y u v w a b c a3 a4 a6 a7 a8 a9) : wL_lawOf_190 post mc ms (nI y) a b c 0 1 2 (nI (oc_sn y u)) (nI (oc_sn y v)) (nI (oc_sn y w)) (oc_i (oc_sn y u) (oc_sn y v)) (oc_i (oc_sn y u) (oc_sn y w)) (oc_i (oc_sn y v) (oc_sn y w)) kc ks z k a1 a2 a3 a4 a5 a6 a7 a8 a9 := by
  unfold wL_lawOf_190
  exact oc_ib (fun n => oc_203 hp C (m := 2) rfl (by rw [oc_f_t, if_neg n])) (fun n => oc_203 hp C (m := 1) rfl (by rw [oc_f_t, if_pos n]))
theorem oc_176 (hp : post 1 ()) (C : oc_A y u v w a b c a3 a4 a6 a7 a8 a9) : wL_lawOf_176 post mc ms (nI y) a b c 0 1 2 (nI (oc_sn y u)) (nI (oc_sn y v)) (nI (oc_sn y w)) (oc_i (oc_sn y u) (oc_sn y v)) (oc_i (oc_sn y u) (oc_sn y w)) kc ks z k a1 a2 a3 a4 a5 a6 a7 a8 a9 := by
  have hg : (oc_sn y v) < 192 := oc_sn_lt C.2.2.1
  have hh : (oc_sn y w) < 192 := oc_sn_lt C.2.2.2.1
  have t : wL_lawOf_190 post mc ms (nI y) a b c 0 1 2 (nI (oc_sn y u)) (nI (oc_sn y v)) (nI (oc_sn y w)) (oc_i (oc_sn y u) (oc_sn y v)) (oc_i (oc_sn y u) (oc_sn y w)) (oc_i (oc_sn y v) (oc_sn y w)) kc ks z k a1 a2 a3 a4 a5 a6 a7 a8 a9 := oc_190 hp C
  unfold wL_lawOf_176
  refine pk_eq (oc_sn y v) (oc_sn y w) (fun e => ?_) (fun e => ?_)
  · rw [oc_i_1 e] at t
    exact t
  · rw [oc_i_0 e] at t
    exact t
theorem oc_162 (hp : post 1 ()) (C : oc_A y u v w a b c a3 a4 a6 a7 a8 a9) : wL_lawOf_162 post mc ms (nI y) a b c 0 1 2 (nI (oc_sn y u)) (nI (oc_sn y v)) (nI (oc_sn y w)) (oc_i (oc_sn y u) (oc_sn y v)) kc ks z k a1 a2 a3 a4 a5 a6 a7 a8 a9 := by
  have hf : (oc_sn y u) < 192 := oc_sn_lt C.2.1
  have hh : (oc_sn y w) < 192 := oc_sn_lt C.2.2.2.1
  have t : wL_lawOf_176 post mc ms (nI y) a b c 0 1 2 (nI (oc_sn y u)) (nI (oc_sn y v)) (nI (oc_sn y w)) (oc_i (oc_sn y u) (oc_sn y v)) (oc_i (oc_sn y u) (oc_sn y w)) kc ks z k a1 a2 a3 a4 a5 a6 a7 a8 a9 := oc_176 hp C
  unfold wL_lawOf_162
  refine pk_eq (oc_sn y u) (oc_sn y w) (fun e => ?_) (fun e => ?_)
  · rw [oc_i_1 e] at t
    exact t
  · rw [oc_i_0 e] at t
    exact t
end
end
section
/-! the law, and what is owed -/
theorem oc_meas (x : Int32) : ¬ (x &&& 1023) - 500 < (-1000) ∧ ¬ 1000 < (x &&& 1023) - 500 ∧ oc_ok ((x &&& 1023) - 500) := by
  obtain ⟨j, hj, e⟩ := pk_andE x (m := 1023) 10 (by decide)
  have t : (nI j - 500).toInt = (j : Int) - 500 := pk_sub_toInt (b := 500) (by omega) (by decide)
  rw [e]
  refine ⟨?_, ?_, ?_⟩
  · rw [Int32.lt_iff_toInt_lt, t, show (-1000 : Int32).toInt = -1000 from by decide]
    omega
  · rw [Int32.lt_iff_toInt_lt, t, show (1000 : Int32).toInt = 1000 from by decide]
    omega
  · unfold oc_ok
    rw [t]
    omega
theorem oc_place (x : Int32) : ∃ j, j < 192 ∧ (x &&& 255) - (x &&& 255) / 192 * 192 = nI j := by
  obtain ⟨j, hj, e⟩ := pk_andE x (m := 255) 8 (by decide)
  rw [e]
  exact ⟨j % 192, Nat.mod_lt _ (by decide), pk_rem (d := 192) (by omega) (by decide) (by decide)⟩
theorem oc_view (x : Int32) : ∃ j, j < 48 ∧ (x &&& 255) - (x &&& 255) / 48 * 48 = nI j := by
  obtain ⟨j, hj, e⟩ := pk_andE x (m := 255) 8 (by decide)
  rw [e]
  exact ⟨j % 48, Nat.mod_lt _ (by decide), pk_rem (d := 48) (by omega) (by decide) (by decide)⟩
theorem oc_lawOf {post : Int32 → St0 → Prop} (hp : post 1 ()) (p0 p1 p2 p3 p4 p5 : Int32) : wpL_lawOf post 1994 31904 () p0 p1 p2 p3 p4 p5 := by
  obtain ⟨y, hy, ey⟩ := oc_view (p3 >>> ((10 : Int32) &&& 31))
  obtain ⟨u, hu, eu⟩ := oc_place p0
  obtain ⟨v, hv, ev⟩ := oc_place p1
  obtain ⟨w, hw, ew⟩ := oc_place p2
  obtain ⟨a1', a2', ha⟩ := oc_meas p3
  obtain ⟨b1', b2', hb⟩ := oc_meas p4
  obtain ⟨c1', c2', hc⟩ := oc_meas p5
  unfold wpL_lawOf
  refine ⟨by decide, nm_r ey ⟨by decide, nm_r eu ⟨by decide, nm_r ev ⟨by decide, nm_r ew ?_⟩⟩⟩⟩
  generalize (p3 &&& 1023) - 500 = a at *
  generalize (p4 &&& 1023) - 500 = b at *
  generalize (p5 &&& 1023) - 500 = c at *
  refine nm_e (nm_e (nm_e ⟨by decide, by decide, 9, 3935, by decide, by decide, ?_⟩))
  have ff : false = true → False := fun t => absurd t (by decide)
  have hf : oc_sn y u < 192 := oc_sn_lt hu
  have hg : oc_sn y v < 192 := oc_sn_lt hv
  obtain ⟨m1, m2, m3, m4⟩ := oc_one1 (f := u) (g := v) (h := w) (a := a) (b := b) (c := c) ha
  obtain ⟨n1, n2, n3, n4⟩ := oc_one2 (f := u) (g := v) (h := w) (a := a) (b := b) (c := c) hb
  obtain ⟨o1, o2, o3, o4⟩ := oc_one3 (f := u) (g := v) (h := w) (a := a) (b := b) (c := c) hc
  refine oc_init u v w a b c (by decide) (by decide) (fun a3 a4 a6 a7 a8 a9 h0 h1 hS => ?_)
  refine oc_putS (n := 0) (P := false) (Q := false) (R := false) (p := true) (q := false) (r := false) (by decide) hu a1' a2' h0 h1 hS ha hb hc (fun _ => rfl) (fun t => (ff t).elim) (fun t => (ff t).elim) (fun t => (ff t).elim) (fun t => (ff t).elim) (fun t => (ff t).elim) (Or.inl rfl) m1 m2 m3 m4 (fun c1 c2 c4 c6 c7 c8 c9 hS1 => ?_)
  refine oc_putS (n := 1) (P := true) (Q := false) (R := false) (p := false) (q := true) (r := false) (by decide) hv b1' b2' h0 h1 hS1 ha hb hc (fun t => (ff t).elim) (fun _ => rfl) (fun t => (ff t).elim) (fun _ => rfl) (fun t => (ff t).elim) (fun t => (ff t).elim) (Or.inr (Or.inl rfl)) n1 n2 n3 n4 (fun d1 d2 d4 d6 d7 d8 d9 hS2 => ?_)
  refine oc_putS (n := 2) (P := true) (Q := true) (R := false) (p := false) (q := false) (r := true) (by decide) hw c1' c2' h0 h1 hS2 ha hb hc (fun t => (ff t).elim) (fun t => (ff t).elim) (fun _ => rfl) (fun _ => rfl) (fun _ => rfl) (fun t => (ff t).elim) (Or.inr (Or.inr rfl)) o1 o2 o3 o4 (fun e1 e2 e4 e6 e7 e8 e9 hS3 => ?_)
  have A : oc_A y u v w a b c a3 e4 e6 e7 e8 e9 := ⟨hy, hu, hv, hw, ha, hb, hc, h0, h1, hS3⟩
  refine oc_seen hy hu (oc_seen hy hv (oc_seen hy hw (pk_eq (oc_sn y u) (oc_sn y v) (fun e => ?_) (fun e => ?_))))
  · have t := oc_162 (mc := 1994) (ms := 31904) (kc := 1 + 9) (ks := 11 + 3935) (z := nI 3) (k := 0) (a1 := e1) (a2 := e2) (a5 := fun _ => 0) hp A
    rw [oc_i_1 e] at t
    exact t
  · have t := oc_162 (mc := 1994) (ms := 31904) (kc := 1 + 9) (ks := 11 + 3935) (z := nI 3) (k := 0) (a1 := e1) (a2 := e2) (a5 := fun _ => 0) hp A
    rw [oc_i_0 e] at t
    exact t
theorem oc_cellAt {post : Int32 → Prop} {L : Nat} {xs : Nat → Int32} {x : Int32} (i : Nat) (hL : L ≤ 6) (hi : i ≤ 5) (hx : x = nI i) (H : ∀ r, post r) : wpL_cellAt post L xs () x := by
  unfold wpL_cellAt
  exact pk_le L i (fun _ => H _) (fun l => ⟨pk_in i L l hx, H _⟩) rfl hx
theorem i_vc (xs : Nat → Int32) (L : Nat) (hL : L ≤ 6) : wpL_law (fun r => r = 1) L xs := by
  unfold wpL_law
  exact oc_cellAt 0 hL (by decide) rfl (fun r1 => oc_cellAt 1 hL (by decide) rfl (fun r2 => oc_cellAt 2 hL (by decide) rfl (fun r3 => oc_cellAt 3 hL (by decide) rfl (fun r4 => oc_cellAt 4 hL (by decide) rfl (fun r5 => oc_cellAt 5 hL (by decide) rfl (fun r6 => ⟨1994, 31904, by decide, by decide, oc_lawOf rfl r1 r2 r3 r4 r5 r6⟩))))))
end

section
/-- what a cell of a slot holds: how many, their sum, the least, the most -/
abbrev oc_D : Type := Nat × Int32 × Int32 × Int32
def oc_e : oc_D := (0, 0, 10000, -10000)
def oc_mn (a b : Int32) : Int32 := if a ≤ b then a else b
def oc_mx (a b : Int32) : Int32 := if b ≤ a then a else b
def oc_op (x y : oc_D) : oc_D := (x.1 + y.1, x.2.1 + y.2.1, oc_mn x.2.2.1 y.2.2.1, oc_mx x.2.2.2 y.2.2.2)
def oc_one (m : Int32) : oc_D := (1, m, m, m)
/-- what the first n facts whose place meets P come to -/
def oc_ag (P : Nat → Bool) (pl : Nat → Nat) (ms : Nat → Int32) : Nat → oc_D
  | 0 => oc_e
  | n + 1 => if P (pl n) = true then oc_op (oc_ag P pl ms n) (oc_one (ms n)) else oc_ag P pl ms n
/-- how many of the first k cells are full -/
def oc_fl (D : Nat → oc_D) : Nat → Nat
  | 0 => 0
  | k + 1 => oc_fl D k + (if 0 < (D k).1 then 1 else 0)
theorem oc_mnI (a b : Int32) : (oc_mn a b).toInt = min a.toInt b.toInt := by
  unfold oc_mn
  split
  · rename_i h
    rw [Int32.le_iff_toInt_le] at h
    omega
  · rename_i h
    rw [Int32.le_iff_toInt_le] at h
    omega
theorem oc_mxI (a b : Int32) : (oc_mx a b).toInt = max a.toInt b.toInt := by
  unfold oc_mx
  split
  · rename_i h
    rw [Int32.le_iff_toInt_le] at h
    omega
  · rename_i h
    rw [Int32.le_iff_toInt_le] at h
    omega
theorem oc_mn_c (a b : Int32) : oc_mn a b = oc_mn b a := Int32.toInt_inj.mp (by simp only [oc_mnI]; omega)
theorem oc_mx_c (a b : Int32) : oc_mx a b = oc_mx b a := Int32.toInt_inj.mp (by simp only [oc_mxI]; omega)
theorem oc_mn_a (a b c : Int32) : oc_mn (oc_mn a b) c = oc_mn a (oc_mn b c) := Int32.toInt_inj.mp (by simp only [oc_mnI]; omega)
theorem oc_mx_a (a b c : Int32) : oc_mx (oc_mx a b) c = oc_mx a (oc_mx b c) := Int32.toInt_inj.mp (by simp only [oc_mxI]; omega)
theorem oc_op_c (x y : oc_D) : oc_op x y = oc_op y x := by
  simp only [oc_op, Prod.mk.injEq]
  exact ⟨Nat.add_comm _ _, Int32.add_comm _ _, oc_mn_c _ _, oc_mx_c _ _⟩
theorem oc_op_a (x y z : oc_D) : oc_op (oc_op x y) z = oc_op x (oc_op y z) := by
  simp only [oc_op, Prod.mk.injEq]
  exact ⟨Nat.add_assoc _ _ _, Int32.add_assoc _ _ _, oc_mn_a _ _ _, oc_mx_a _ _ _⟩
theorem oc_op_r (x y z : oc_D) : oc_op (oc_op x y) z = oc_op (oc_op x z) y := by
  rw [oc_op_a, oc_op_c y z, ← oc_op_a]
theorem oc_op_e : oc_op oc_e oc_e = oc_e := by decide +kernel
theorem oc_ag_t {P : Nat → Bool} {pl : Nat → Nat} {ms : Nat → Int32} {n : Nat} (h : P (pl n) = true) : oc_ag P pl ms (n + 1) = oc_op (oc_ag P pl ms n) (oc_one (ms n)) := by
  show (if P (pl n) = true then _ else _) = _
  rw [if_pos h]
theorem oc_ag_f {P : Nat → Bool} {pl : Nat → Nat} {ms : Nat → Int32} {n : Nat} (h : P (pl n) = false) : oc_ag P pl ms (n + 1) = oc_ag P pl ms n := by
  show (if P (pl n) = true then _ else _) = _
  rw [if_neg (by rw [h]; decide)]
/-- two kinds of facts that don't meet come to what each comes to, put together -/
theorem oc_ag_u {P Q R : Nat → Bool} {pl : Nat → Nat} {ms : Nat → Int32} : ∀ n, (∀ j, j < n → R (pl j) = (P (pl j) || Q (pl j)) ∧ ¬ (P (pl j) = true ∧ Q (pl j) = true)) → oc_ag R pl ms n = oc_op (oc_ag P pl ms n) (oc_ag Q pl ms n) := by
  intro n
  induction n with
  | zero => intro _; exact oc_op_e.symm
  | succ n ih =>
    intro h
    have ih' := ih (fun j hj => h j (by omega))
    obtain ⟨h1, h2⟩ := h n (by omega)
    cases hP : P (pl n)
    · cases hQ : Q (pl n)
      · rw [hP, hQ] at h1
        rw [oc_ag_f hP, oc_ag_f hQ, oc_ag_f h1, ih']
      · rw [hP, hQ] at h1
        rw [oc_ag_f hP, oc_ag_t hQ, oc_ag_t h1, ih', oc_op_a]
    · cases hQ : Q (pl n)
      · rw [hP, hQ] at h1
        rw [oc_ag_t hP, oc_ag_f hQ, oc_ag_t h1, ih', oc_op_r]
      · exact absurd ⟨hP, hQ⟩ h2
theorem oc_ag_x {P Q : Nat → Bool} {pl pl' : Nat → Nat} {ms ms' : Nat → Int32} : ∀ n, (∀ j, j < n → P (pl j) = Q (pl' j) ∧ ms j = ms' j) → oc_ag P pl ms n = oc_ag Q pl' ms' n := by
  intro n
  induction n with
  | zero => intro _; rfl
  | succ n ih =>
    intro h
    have ih' := ih (fun j hj => h j (by omega))
    obtain ⟨h1, h2⟩ := h n (by omega)
    cases hQ : Q (pl' n)
    · rw [oc_ag_f hQ, oc_ag_f (h1.trans hQ), ih']
    · rw [oc_ag_t hQ, oc_ag_t (h1.trans hQ), ih', h2]
theorem oc_ag_0 {P : Nat → Bool} {pl : Nat → Nat} {ms : Nat → Int32} : ∀ n, (∀ j, j < n → P (pl j) = false) → oc_ag P pl ms n = oc_e := by
  intro n
  induction n with
  | zero => intro _; rfl
  | succ n ih =>
    intro h
    rw [oc_ag_f (h n (by omega)), ih (fun j hj => h j (by omega))]
theorem oc_ag_no {P : Nat → Bool} {pl : Nat → Nat} {ms : Nat → Int32} : ∀ n, (oc_ag P pl ms n).1 = 0 → ∀ j, j < n → P (pl j) = false := by
  intro n
  induction n with
  | zero => intro _ j hj; exact absurd hj (by omega)
  | succ n ih =>
    intro h j hj
    cases hP : P (pl n)
    · rw [oc_ag_f hP] at h
      by_cases e : j = n
      · rw [e, hP]
      · exact ih h j (by omega)
    · rw [oc_ag_t hP] at h
      have h' : (oc_ag P pl ms n).1 + 1 = 0 := h
      exact absurd h' (by omega)
theorem oc_ag_ex {P : Nat → Bool} {pl : Nat → Nat} {ms : Nat → Int32} : ∀ n, 0 < (oc_ag P pl ms n).1 → ∃ j, j < n ∧ P (pl j) = true := by
  intro n
  induction n with
  | zero => intro h; exact absurd (show 0 < 0 from h) (by omega)
  | succ n ih =>
    intro h
    cases hP : P (pl n)
    · rw [oc_ag_f hP] at h
      obtain ⟨j, hj, e⟩ := ih h
      exact ⟨j, by omega, e⟩
    · exact ⟨n, by omega, hP⟩
theorem oc_ag_n {P : Nat → Bool} {pl : Nat → Nat} {ms : Nat → Int32} : ∀ n, (oc_ag P pl ms n).1 ≤ n := by
  intro n
  induction n with
  | zero => exact Nat.le_refl 0
  | succ n ih =>
    cases hP : P (pl n)
    · rw [oc_ag_f hP]
      omega
    · rw [oc_ag_t hP]
      show (oc_ag P pl ms n).1 + 1 ≤ n + 1
      omega
theorem oc_fl_s (D : Nat → oc_D) (k : Nat) : oc_fl D (k + 1) = oc_fl D k + (if 0 < (D k).1 then 1 else 0) := rfl
theorem oc_fl_le (D : Nat → oc_D) : ∀ k, oc_fl D k ≤ k := by
  intro k
  induction k with
  | zero => exact Nat.le_refl 0
  | succ k ih =>
    rw [oc_fl_s]
    split <;> omega
theorem oc_fl_m (D : Nat → oc_D) (k : Nat) : ∀ i, oc_fl D k ≤ oc_fl D (k + i) := by
  intro i
  induction i with
  | zero => exact Nat.le_refl _
  | succ i ih =>
    have e : oc_fl D (k + (i + 1)) = oc_fl D (k + i) + (if 0 < (D (k + i)).1 then 1 else 0) := rfl
    omega
theorem oc_fl_x {D E : Nat → oc_D} : ∀ k, (∀ c, c < k → (0 < (D c).1 ↔ 0 < (E c).1)) → oc_fl D k = oc_fl E k := by
  intro k
  induction k with
  | zero => intro _; rfl
  | succ k ih =>
    intro h
    rw [oc_fl_s, oc_fl_s, ih (fun c hc => h c (by omega))]
    have hk := h k (by omega)
    by_cases z : 0 < (D k).1
    · rw [if_pos z, if_pos (hk.mp z)]
    · rw [if_neg z, if_neg (fun y => z (hk.mpr y))]
/-- cells from k to k + i that hold nothing don't count -/
theorem oc_fl_z (D : Nat → oc_D) (k : Nat) : ∀ i, (∀ c, k ≤ c → c < k + i → (D c).1 = 0) → oc_fl D (k + i) = oc_fl D k := by
  intro i
  induction i with
  | zero => intro _; rfl
  | succ i ih =>
    intro h
    have e : oc_fl D (k + (i + 1)) = oc_fl D (k + i) + (if 0 < (D (k + i)).1 then 1 else 0) := rfl
    have z := h (k + i) (by omega) (by omega)
    rw [e, ih (fun c h1 h2 => h c h1 (by omega)), if_neg (by omega)]
    rfl
/-- one more fact, or a first one, at one cell -/
def oc_put (D : Nat → oc_D) (c : Nat) (d : oc_D) : Nat → oc_D := fun j => if j = c then oc_op (D c) d else D j
theorem oc_put_s {D : Nat → oc_D} {c : Nat} {d : oc_D} : oc_put D c d c = oc_op (D c) d := if_pos rfl
theorem oc_put_n {D : Nat → oc_D} {c j : Nat} {d : oc_D} (h : j ≠ c) : oc_put D c d j = D j := if_neg h
theorem oc_fl_put {D : Nat → oc_D} {c : Nat} {d : oc_D} (hd : 0 < d.1) : ∀ k, oc_fl (oc_put D c d) k = oc_fl D k + (if c < k ∧ (D c).1 = 0 then 1 else 0) := by
  intro k
  induction k with
  | zero => rw [if_neg (fun h => absurd h.1 (by omega))]; rfl
  | succ k ih =>
    rw [oc_fl_s, oc_fl_s, ih]
    by_cases e : k = c
    · rw [e, oc_put_s]
      have h1 : 0 < (oc_op (D c) d).1 := by
        show 0 < (D c).1 + d.1
        omega
      rw [if_pos h1, if_neg (fun h => absurd h.1 (by omega))]
      by_cases z : (D c).1 = 0
      · rw [if_neg (by omega), if_pos ⟨by omega, z⟩]
      · rw [if_pos (by omega), if_neg (fun h => z h.2)]
    · rw [oc_put_n e]
      split <;> split <;> split <;> omega
theorem oc_fl_1 {D E : Nat → oc_D} {c0 : Nat} (h : ∀ c, c ≠ c0 → D c = E c) : ∀ k, oc_fl D k ≤ oc_fl E k + (if c0 < k then 1 else 0) := by
  intro k
  induction k with
  | zero => exact Nat.zero_le _
  | succ k ih =>
    rw [oc_fl_s, oc_fl_s]
    by_cases e : k = c0
    · rw [e] at ih ⊢
      rw [if_neg (show ¬ c0 < c0 by omega)] at ih
      rw [if_pos (show c0 < c0 + 1 by omega)]
      split <;> split <;> omega
    · rw [h k e]
      by_cases z : c0 < k
      · rw [if_pos z] at ih
        rw [if_pos (show c0 < k + 1 by omega)]
        omega
      · rw [if_neg z] at ih
        rw [if_neg (show ¬ c0 < k + 1 by omega)]
        omega
/-- n facts fill n cells at most -/
theorem oc_fl_n (f : Nat → Nat) (pl : Nat → Nat) (ms : Nat → Int32) (k : Nat) : ∀ n, oc_fl (fun c => oc_ag (fun p => f p == c) pl ms n) k ≤ n := by
  intro n
  induction n with
  | zero =>
    have e : ∀ k, oc_fl (fun c => oc_ag (fun p => f p == c) pl ms 0) k = 0 := by
      intro k
      induction k with
      | zero => rfl
      | succ k ih =>
        rw [oc_fl_s, ih]
        rfl
    rw [e]
    exact Nat.le_refl 0
  | succ n ih =>
    have h := oc_fl_1 (D := fun c => oc_ag (fun p => f p == c) pl ms (n + 1)) (E := fun c => oc_ag (fun p => f p == c) pl ms n) (c0 := f (pl n)) (fun c hc => oc_ag_f (by
      show (f (pl n) == c) = false
      exact beq_false_of_ne (fun e => hc e.symm))) k
    split at h <;> omega
end
section
/-- the divisors of the three levels -/
def oc_kA (x : Nat) : Nat := if x = 2 then 0 else x + 1
def oc_kB (y : Nat) : Nat := if y = 3 then 0 else y + 1
def oc_kC (z : Nat) : Nat := if z = 3 then 0 else 2 ^ z
/-- the cell that a place is seen as in a view -/
def oc_seen (v p : Nat) : Nat := 48 * (p / 48 / oc_kA (v / 16)) + 8 * (p / 8 % 6 / oc_kB (v / 4 % 4)) + p % 8 / oc_kC (v % 4)
/-- a place of a cell of a view -/
def oc_rep (v c : Nat) : Nat := 48 * (oc_kA (v / 16) * (c / 48)) + 8 * (oc_kB (v / 4 % 4) * (c / 8 % 6)) + oc_kC (v % 4) * (c % 8)
def oc_fin (v w : Nat) : Prop := v / 16 ≤ w / 16 ∧ v % 4 ≤ w % 4 ∧ v / 4 % 4 ≤ w / 4 % 4 ∧ ¬ (v / 4 % 4 = 1 ∧ w / 4 % 4 = 2)
theorem oc_dg {a b c : Nat} (hb : b < 6) (hc : c < 8) : (48 * a + 8 * b + c) / 48 = a ∧ (48 * a + 8 * b + c) / 8 % 6 = b ∧ (48 * a + 8 * b + c) % 8 = c := by
  refine ⟨by omega, by omega, by omega⟩
theorem oc_fA : ∀ x, x < 3 → ∀ y, y < 3 → x ≤ y → ∀ a, a < 4 → oc_kA x * (a / oc_kA x) / oc_kA y = a / oc_kA y := by decide +kernel
theorem oc_fB : ∀ x, x < 4 → ∀ y, y < 4 → x ≤ y → ¬ (x = 1 ∧ y = 2) → ∀ a, a < 6 → oc_kB x * (a / oc_kB x) / oc_kB y = a / oc_kB y := by decide +kernel
theorem oc_fC : ∀ x, x < 4 → ∀ y, y < 4 → x ≤ y → ∀ a, a < 8 → oc_kC x * (a / oc_kC x) / oc_kC y = a / oc_kC y := by decide +kernel
theorem oc_seen_lt {v p : Nat} (hp : p < 192) : oc_seen v p < 192 := by
  unfold oc_seen
  have h1 := Nat.div_le_self (p / 48) (oc_kA (v / 16))
  have h2 := Nat.div_le_self (p / 8 % 6) (oc_kB (v / 4 % 4))
  have h3 := Nat.div_le_self (p % 8) (oc_kC (v % 4))
  omega
theorem oc_seen_0 {p : Nat} (hp : p < 192) : oc_seen 0 p = p := by
  unfold oc_seen
  show 48 * (p / 48 / 1) + 8 * (p / 8 % 6 / 1) + p % 8 / 1 = p
  omega
theorem oc_fin_0 (w : Nat) : oc_fin 0 w := by
  refine ⟨Nat.zero_le _, Nat.zero_le _, Nat.zero_le _, fun h => absurd h.1 (by decide)⟩
/-- a finer view's cell says where its places lie in the coarser one -/
theorem oc_fin_p {v w p : Nat} (hv : v < 48) (hw : w < 48) (hf : oc_fin v w) (hp : p < 192) : oc_seen w (oc_rep v (oc_seen v p)) = oc_seen w p := by
  obtain ⟨f1, f2, f3, f4⟩ := hf
  have h1 := Nat.div_le_self (p / 48) (oc_kA (v / 16))
  have h2 := Nat.div_le_self (p / 8 % 6) (oc_kB (v / 4 % 4))
  have h3 := Nat.div_le_self (p % 8) (oc_kC (v % 4))
  have e := oc_dg (a := p / 48 / oc_kA (v / 16)) (b := p / 8 % 6 / oc_kB (v / 4 % 4)) (c := p % 8 / oc_kC (v % 4)) (by omega) (by omega)
  have g1 := Nat.mul_div_le (p / 48) (oc_kA (v / 16))
  have g2 := Nat.mul_div_le (p / 8 % 6) (oc_kB (v / 4 % 4))
  have g3 := Nat.mul_div_le (p % 8) (oc_kC (v % 4))
  have e' := oc_dg (a := oc_kA (v / 16) * (p / 48 / oc_kA (v / 16))) (b := oc_kB (v / 4 % 4) * (p / 8 % 6 / oc_kB (v / 4 % 4))) (c := oc_kC (v % 4) * (p % 8 / oc_kC (v % 4))) (by omega) (by omega)
  have r : oc_rep v (oc_seen v p) = 48 * (oc_kA (v / 16) * (p / 48 / oc_kA (v / 16))) + 8 * (oc_kB (v / 4 % 4) * (p / 8 % 6 / oc_kB (v / 4 % 4))) + oc_kC (v % 4) * (p % 8 / oc_kC (v % 4)) := by
    unfold oc_rep oc_seen
    rw [e.1, e.2.1, e.2.2]
  rw [r]
  unfold oc_seen
  rw [e'.1, e'.2.1, e'.2.2]
  rw [oc_fA (v / 16) (by omega) (w / 16) (by omega) f1 (p / 48) (by omega)]
  rw [oc_fB (v / 4 % 4) (by omega) (w / 4 % 4) (by omega) f3 f4 (p / 8 % 6) (by omega)]
  rw [oc_fC (v % 4) (by omega) (w % 4) (by omega) f2 (p % 8) (by omega)]
theorem oc_byA {post : Int32 → Prop} {v : Nat} (hv : v < 48) (hp : post (nI (oc_kA (v / 16)))) : wpX_byA post () (nI v) := by
  unfold wpX_byA
  refine nm_r (show nI v >>> ((4 : Int32) &&& 31) = nI (v / 16) from pk_shrN (by omega) _ 4 (by decide)) ?_
  unfold oc_kA at hp
  refine pk_eq (v / 16) 2 (fun h => ?_) (fun h => ?_)
  · rw [if_pos h] at hp
    exact hp
  · rw [if_neg h] at hp
    rw [nI_1]
    exact hp
theorem oc_b4 {v : Nat} (hv : v < 48) : (nI v >>> ((2 : Int32) &&& 31)) &&& 3 = nI (v / 4 % 4) := by
  rw [show nI v >>> ((2 : Int32) &&& 31) = nI (v / 4) from pk_shrN (by omega) _ 2 (by decide)]
  exact pk_andN (by omega) 2 (by decide)
theorem oc_c4 {v : Nat} (hv : v < 48) : nI v &&& 3 = nI (v % 4) := pk_andN (by omega) 2 (by decide)
theorem oc_a4 {v : Nat} (hv : v < 48) : nI v >>> ((4 : Int32) &&& 31) = nI (v / 16) := pk_shrN (by omega) _ 4 (by decide)
theorem oc_byB {post : Int32 → Prop} {v : Nat} (hv : v < 48) (hp : post (nI (oc_kB (v / 4 % 4)))) : wpX_byB post () (nI v) := by
  unfold wpX_byB
  refine nm_r (oc_b4 hv) ?_
  unfold oc_kB at hp
  refine pk_eq (v / 4 % 4) 3 (fun h => ?_) (fun h => ?_)
  · rw [if_pos h] at hp
    exact hp
  · rw [if_neg h] at hp
    rw [nI_1]
    exact hp
theorem oc_sh1 : ∀ k, k < 4 → (1 : Int32) <<< (nI k &&& 31) = nI (2 ^ k) := by decide +kernel
theorem oc_byC {post : Int32 → Prop} {v : Nat} (hv : v < 48) (hp : post (nI (oc_kC (v % 4)))) : wpX_byC post () (nI v) := by
  unfold wpX_byC
  refine nm_r (oc_c4 hv) ?_
  unfold oc_kC at hp
  refine pk_eq (v % 4) 3 (fun h => ?_) (fun h => ?_)
  · rw [if_pos h] at hp
    exact hp
  · rw [if_neg h] at hp
    rw [oc_sh1 _ (by omega)]
    exact hp
theorem oc_coarser {post : Int32 → Prop} {x0 : Int32} (x d : Nat) (hx : x0 = nI x) (h1 : x < 2 ^ 31) (h2 : d < 2 ^ 31) (hp : post (nI (x / d))) : wpX_coarser post () x0 (nI d) := by
  unfold wpX_coarser
  rw [hx]
  refine pk_le d 0 (fun h => ?_) (fun h => ⟨nI_ne0 h h2, ?_⟩)
  · have e : d = 0 := by omega
    rw [e, Nat.div_zero] at hp
    exact hp
  · rw [pk_div h1 h h2]
    exact hp
theorem oc_kA_b (x : Nat) (h : x < 3) : oc_kA x < 8 := by
  unfold oc_kA
  split <;> omega
theorem oc_kB_b (x : Nat) (h : x < 4) : oc_kB x < 8 := by
  unfold oc_kB
  split <;> omega
theorem oc_kC_b : ∀ x, x < 4 → oc_kC x < 8 := by decide +kernel
theorem oc_d8 {p : Nat} (hp : p < 2 ^ 31) : nI p / 8 = nI (p / 8) := pk_div hp (by decide) (by decide)
theorem oc_d48 {p : Nat} (hp : p < 2 ^ 31) : nI p / 48 = nI (p / 48) := pk_div hp (by decide) (by decide)
theorem oc_m8 {p : Nat} (hp : p < 2 ^ 31) : nI p - nI p / 8 * 8 = nI (p % 8) := pk_rem hp (by decide) (by decide)
theorem oc_m6 {p : Nat} (hp : p < 2 ^ 31) : nI p / 8 - nI p / 8 / 6 * 6 = nI (p / 8 % 6) := by
  rw [oc_d8 hp]
  exact pk_rem (by omega) (by decide) (by decide)
theorem oc_dgI (a b c : Nat) : (48 : Int32) * nI a + 8 * nI b + nI c = nI (48 * a + 8 * b + c) := by
  rw [← nI_add, ← nI_add, ← pk_mul, ← pk_mul]
  rfl
theorem oc_seenAs {post : Int32 → Prop} {v p : Nat} (hv : v < 48) (hp : p < 2 ^ 31) (h : post (nI (oc_seen v p))) : wpX_seenAs post () (nI v) (nI p) := by
  unfold wpX_seenAs
  have k1 := oc_kA_b (v / 16) (by omega)
  have k2 := oc_kB_b (v / 4 % 4) (by omega)
  have k3 := oc_kC_b (v % 4) (by omega)
  refine ⟨by decide, oc_byA hv (oc_coarser (p / 48) _ (oc_d48 hp) (by omega) (by omega) ⟨by decide, by decide, oc_byB hv (oc_coarser (p / 8 % 6) _ (oc_m6 hp) (by omega) (by omega) ⟨by decide, oc_byC hv (oc_coarser (p % 8) _ (oc_m8 hp) (by omega) (by omega) ?_)⟩)⟩)⟩
  show post (48 * nI (p / 48 / oc_kA (v / 16)) + 8 * nI (p / 8 % 6 / oc_kB (v / 4 % 4)) + nI (p % 8 / oc_kC (v % 4)))
  rw [oc_dgI]
  exact h
theorem oc_cellFrom {post : Int32 → Prop} {v w c : Nat} (hv : v < 48) (hw : w < 48) (hc : c < 192) (h : post (nI (oc_seen w (oc_rep v c)))) : wpX_cellFrom post () (nI v) (nI c) (nI w) := by
  unfold wpX_cellFrom
  have k1 := oc_kA_b (v / 16) (by omega)
  have k2 := oc_kB_b (v / 4 % 4) (by omega)
  have k3 := oc_kC_b (v % 4) (by omega)
  have m1 : oc_kA (v / 16) * (c / 48) ≤ 8 * 4 := Nat.mul_le_mul (by omega) (by omega)
  have m2 : oc_kB (v / 4 % 4) * (c / 8 % 6) ≤ 8 * 6 := Nat.mul_le_mul (by omega) (by omega)
  have m3 : oc_kC (v % 4) * (c % 8) ≤ 8 * 8 := Nat.mul_le_mul (by omega) (by omega)
  have hc' : c < 2 ^ 31 := by omega
  refine oc_byA hv ⟨by decide, nm_r (e' := nI (oc_kA (v / 16) * (c / 48))) (by rw [oc_d48 hc', pk_mul]) (oc_byB hv ⟨by decide, by decide, nm_r (e' := nI (oc_kB (v / 4 % 4) * (c / 8 % 6))) (by rw [oc_m6 hc', pk_mul]) (oc_byC hv ⟨by decide, nm_r (e' := nI (oc_kC (v % 4) * (c % 8))) (by rw [oc_m8 hc', pk_mul]) ?_⟩)⟩)⟩
  rw [oc_dgI]
  refine oc_seenAs hw ?_ h
  omega
theorem oc_isFiner_32 {post : Int32 → Prop} {z0 : Int32} {v w : Nat} (hv : v < 48) (hw : w < 48) (h0 : post 0) (h1 : ¬ z0 = 0 → v / 16 ≤ w / 16 → v % 4 ≤ w % 4 → post 1) : wX_isFiner_32 post (nI v) (nI w) z0 := by
  unfold wX_isFiner_32
  rw [oc_a4 hv, oc_a4 hw, oc_c4 hv, oc_c4 hw]
  exact pk_lt (w / 16) (v / 16) (fun _ => h0) (fun a => pk_lt (w % 4) (v % 4) (fun _ => h0) (fun b => br_c (fun _ => h0) (fun c => h1 c a b)))
theorem oc_isFiner {post : Int32 → Prop} {v w : Nat} (hv : v < 48) (hw : w < 48) (h0 : post 0) (h1 : oc_fin v w → post 1) : wpX_isFiner post () (nI v) (nI w) := by
  unfold wpX_isFiner
  refine nm_r (oc_b4 hv) (nm_r (oc_b4 hw) ?_)
  refine pk_lt (w / 4 % 4) (v / 4 % 4) (fun _ => oc_isFiner_32 hv hw h0 (fun z => absurd rfl z)) (fun a => pk_eq (v / 4 % 4) 1 (fun b => pk_eq (w / 4 % 4) 2 (fun c => oc_isFiner_32 hv hw h0 (fun z => absurd rfl z)) (fun c => ?_)) (fun b => ?_))
  · exact oc_isFiner_32 hv hw h0 (fun _ x y => h1 ⟨x, y, a, fun t => c t.2⟩)
  · exact oc_isFiner_32 hv hw h0 (fun _ x y => h1 ⟨x, y, a, fun t => b t.1⟩)
theorem oc_lseen_87 {post : Int32 → Prop} {a b c z : Nat} (hc : c < 2 ^ 31) (hz : z < 4) (h : post (nI (48 * a + 8 * b + c / oc_kC z))) : wL_seen_87 post (nI a) (nI b) (nI c) (nI z) := by
  unfold wL_seen_87 wL_seen_119 wL_seen_121
  rw [← oc_dgI] at h
  refine pk_le z 0 (fun g => ?_) (fun g => pk_eq z 1 (fun g1 => ⟨by decide, ?_⟩) (fun g1 => pk_eq z 2 (fun g2 => ⟨by decide, ?_⟩) (fun g2 => ?_)))
  · have e : z = 0 := by omega
    rw [e, show c / oc_kC 0 = c from Nat.div_one c] at h
    exact h
  · rw [g1] at h
    rw [show nI c / 2 = nI (c / 2) from pk_div hc (by decide) (by decide)]
    exact h
  · rw [g2] at h
    rw [show nI c / 4 = nI (c / 4) from pk_div hc (by decide) (by decide)]
    exact h
  · have e : z = 3 := by omega
    rw [e, show c / oc_kC 3 = 0 from Nat.div_zero c] at h
    exact h
theorem oc_lseen_56 {post : Int32 → Prop} {a b c y z : Nat} (hb : b < 2 ^ 31) (hc : c < 2 ^ 31) (hy : y < 4) (hz : z < 4) (h : post (nI (48 * a + 8 * (b / oc_kB y) + c / oc_kC z))) : wL_seen_56 post (nI a) (nI b) (nI c) (nI y) (nI z) := by
  unfold wL_seen_56 wL_seen_86
  refine pk_le y 0 (fun g => ?_) (fun g => pk_eq y 1 (fun g1 => ⟨by decide, ?_⟩) (fun g1 => pk_eq y 2 (fun g2 => ⟨by decide, ?_⟩) (fun g2 => ?_)))
  · have e : y = 0 := by omega
    rw [e, show b / oc_kB 0 = b from Nat.div_one b] at h
    exact oc_lseen_87 hc hz h
  · rw [g1] at h
    rw [show nI b / 2 = nI (b / 2) from pk_div hb (by decide) (by decide)]
    exact oc_lseen_87 hc hz h
  · rw [g2] at h
    rw [show nI b / 3 = nI (b / 3) from pk_div hb (by decide) (by decide)]
    exact oc_lseen_87 hc hz h
  · have e : y = 3 := by omega
    rw [e, show b / oc_kB 3 = 0 from Nat.div_zero b] at h
    exact oc_lseen_87 (b := 0) hc hz h
theorem oc_lseen {post : Int32 → Prop} {v p : Nat} (hv : v < 48) (hp : p < 192) (h : post (nI (oc_seen v p))) : wpL_seen post () (nI v) (nI p) := by
  unfold wpL_seen
  have hp' : p < 2 ^ 31 := by omega
  have e4 : nI v / 4 - nI v / 4 / 4 * 4 = nI (v / 4 % 4) := by
    rw [show nI v / 4 = nI (v / 4) from pk_div (by omega) (by decide) (by decide)]
    exact pk_rem (by omega) (by decide) (by decide)
  refine ⟨by decide, nm_r (oc_d48 hp') ⟨by decide, by decide, nm_r (oc_m6 hp') ⟨by decide, nm_r (oc_m8 hp') ⟨by decide, nm_r (show nI v / 16 = nI (v / 16) from pk_div (by omega) (by decide) (by decide)) ⟨by decide, by decide, nm_r e4 ⟨by decide, nm_r (show nI v - nI v / 4 * 4 = nI (v % 4) from pk_rem (by omega) (by decide) (by decide)) ?_⟩⟩⟩⟩⟩⟩
  unfold oc_seen at h
  unfold wL_seen_55
  refine pk_le (v / 16) 0 (fun g => ?_) (fun g => pk_eq (v / 16) 1 (fun g1 => ⟨by decide, ?_⟩) (fun g1 => ?_))
  · have e : v / 16 = 0 := by omega
    rw [e, show p / 48 / oc_kA 0 = p / 48 from Nat.div_one _] at h
    exact oc_lseen_56 (by omega) (by omega) (by omega) (by omega) h
  · rw [g1] at h
    rw [show nI (p / 48) / 2 = nI (p / 48 / 2) from pk_div (by omega) (by decide) (by decide)]
    exact oc_lseen_56 (by omega) (by omega) (by omega) (by omega) h
  · have e : v / 16 = 2 := by omega
    rw [e, show p / 48 / oc_kA 2 = 0 from Nat.div_zero _] at h
    exact oc_lseen_56 (a := 0) (by omega) (by omega) (by omega) (by omega) h
theorem oc_isView {post : Int32 → Prop} {x : Int32} (h0 : post 0) (h1 : ∀ j, j < 48 → x = nI j → post 1) : wpX_isView post () x := by
  unfold wpX_isView
  refine br_c (fun _ => h0) (fun a => br_c (fun _ => h0) (fun b => ?_))
  rcases pk_ix x (n := 48) (by omega) with z | z | ⟨j, hj, e⟩
  · exact absurd z a
  · exact absurd z b
  · exact h1 j hj e
theorem oc_isCell {post : Int32 → Prop} {x : Int32} (h0 : post 0) (h1 : ∀ j, j < 192 → x = nI j → post 1) : wpX_isCell post () x := by
  unfold wpX_isCell
  refine br_c (fun _ => h0) (fun a => br_c (fun _ => h0) (fun b => ?_))
  rcases pk_ix x (n := 192) (by omega) with z | z | ⟨j, hj, e⟩
  · exact absurd z a
  · exact absurd z b
  · exact h1 j hj e
theorem oc_viewT {post : Int32 → Prop} {j : Nat} (hj : j < 48) (h1 : post 1) : wpX_isView post () (nI j) := by
  unfold wpX_isView
  exact br_f (nI_pos (by omega)) (br_f (nI_ge (b := 48) hj (by decide)) h1)
theorem oc_cellT {post : Int32 → Prop} {j : Nat} (hj : j < 192) (h1 : post 1) : wpX_isCell post () (nI j) := by
  unfold wpX_isCell
  exact br_f (nI_pos (by omega)) (br_f (nI_ge (b := 192) hj (by decide)) h1)
theorem oc_isMeasure {post : Int32 → Prop} {x : Int32} (h0 : post 0) (h1 : post 1) : wpX_isMeasure post () x := by
  unfold wpX_isMeasure
  exact br_c (fun _ => h0) (fun _ => br_c (fun _ => h0) (fun _ => h1))
end
section
def oc_g (a6 a7 a8 a9 : Nat → Int32) (i : Nat) : Int32 × Int32 × Int32 × Int32 := (a6 i, a7 i, a8 i, a9 i)
def oc_w (d : oc_D) : Int32 × Int32 × Int32 × Int32 := (nI d.1, d.2.1, d.2.2.1, d.2.2.2)
/-- slot s holds D -/
def oc_sl (s : Nat) (D : Nat → oc_D) (a4 a6 a7 a8 a9 : Nat → Int32) : Prop := a4 s = nI (oc_fl D 192) ∧ ∀ c, c < 192 → oc_g a6 a7 a8 a9 (192 * s + c) = oc_w (D c)
/-- nothing but slot t has changed -/
def oc_fr (t : Nat) (a4 a6 a7 a8 a9 b4 b6 b7 b8 b9 : Nat → Int32) : Prop := (∀ u, u ≠ t → b4 u = a4 u) ∧ ∀ j, (j < 192 * t ∨ 192 * t + 192 ≤ j) → oc_g b6 b7 b8 b9 j = oc_g a6 a7 a8 a9 j
theorem oc_fr_r {t : Nat} {a4 a6 a7 a8 a9 : Nat → Int32} : oc_fr t a4 a6 a7 a8 a9 a4 a6 a7 a8 a9 := ⟨fun _ _ => rfl, fun _ _ => rfl⟩
theorem oc_fr_t {t : Nat} {a4 a6 a7 a8 a9 b4 b6 b7 b8 b9 c4 c6 c7 c8 c9 : Nat → Int32} (h : oc_fr t a4 a6 a7 a8 a9 b4 b6 b7 b8 b9) (g : oc_fr t b4 b6 b7 b8 b9 c4 c6 c7 c8 c9) : oc_fr t a4 a6 a7 a8 a9 c4 c6 c7 c8 c9 :=
  ⟨fun u hu => (g.1 u hu).trans (h.1 u hu), fun j hj => (g.2 j hj).trans (h.2 j hj)⟩
theorem oc_sl_fr {s t : Nat} {D : Nat → oc_D} {a4 a6 a7 a8 a9 b4 b6 b7 b8 b9 : Nat → Int32} (hst : s ≠ t) (h : oc_sl s D a4 a6 a7 a8 a9) (g : oc_fr t a4 a6 a7 a8 a9 b4 b6 b7 b8 b9) : oc_sl s D b4 b6 b7 b8 b9 :=
  ⟨(g.1 s hst).trans h.1, fun c hc => (g.2 (192 * s + c) (by omega)).trans (h.2 c hc)⟩
theorem oc_sl_x {s : Nat} {D E : Nat → oc_D} {a4 a6 a7 a8 a9 : Nat → Int32} (h : oc_sl s D a4 a6 a7 a8 a9) (e : ∀ c, c < 192 → D c = E c) : oc_sl s E a4 a6 a7 a8 a9 :=
  ⟨h.1.trans (by rw [oc_fl_x 192 (fun c hc => by rw [e c hc])]), fun c hc => (h.2 c hc).trans (by rw [e c hc])⟩
theorem oc_g_s {a6 a7 a8 a9 : Nat → Int32} {k : Nat} {x y z w : Int32} : oc_g (upd a6 k x) (upd a7 k y) (upd a8 k z) (upd a9 k w) k = (x, y, z, w) := by
  unfold oc_g
  rw [pk_us, pk_us, pk_us, pk_us]
theorem oc_g_n {a6 a7 a8 a9 : Nat → Int32} {j k : Nat} {x y z w : Int32} (h : j ≠ k) : oc_g (upd a6 k x) (upd a7 k y) (upd a8 k z) (upd a9 k w) j = oc_g a6 a7 a8 a9 j := by
  unfold oc_g
  rw [pk_un h, pk_un h, pk_un h, pk_un h]
theorem oc_ix (s c : Nat) : (192 : Int32) * nI s + nI c = nI (192 * s + c) := by
  rw [← nI_add, ← pk_mul]
  rfl
theorem oc_fl_e (k : Nat) : oc_fl (fun _ => oc_e) k = 0 := by
  induction k with
  | zero => rfl
  | succ k ih =>
    rw [oc_fl_s, ih]
    rfl
theorem oc_wipe {post : St1 → Prop} {sz ck : Int32} {a1 a2 a3 a4 a5 a6 a7 a8 a9 : Nat → Int32} {t : Nat} (ht : t < 5)
    (H : ∀ b4 b6 b7 b8 b9 : Nat → Int32, oc_sl t (fun _ => oc_e) b4 b6 b7 b8 b9 → oc_fr t a4 a6 a7 a8 a9 b4 b6 b7 b8 b9 → post (sz, ck, a1, a2, a3, b4, a5, b6, b7, b8, b9)) :
    wpX_wipe post (sz, ck, a1, a2, a3, a4, a5, a6, a7, a8, a9) (nI t) := by
  unfold wpX_wipe
  refine ⟨pk_in t 5 ht, nm_e (nm_r (show (192 : Int32) * nI t = nI (192 * t) from pk_mul 192 t) ?_)⟩
  rw [nI_clamp (show t < 2 ^ 31 by omega)]
  refine pk_loop (σ := (Nat → Int32) × (Nat → Int32) × (Nat → Int32) × (Nat → Int32)) (fun n i s => wX_wipe_13 post (nI t) sz ck n (nI i) a1 a2 a3 (upd a4 t 0) a5 s.1 s.2.1 s.2.2.1 s.2.2.2)
    (fun i s => 192 * t ≤ i ∧ (∀ j, 192 * t ≤ j → j < i → oc_g s.1 s.2.1 s.2.2.1 s.2.2.2 j = oc_w oc_e) ∧ ∀ j, (j < 192 * t ∨ 192 * t + 192 ≤ j) → oc_g s.1 s.2.1 s.2.2.1 s.2.2.2 j = oc_g a6 a7 a8 a9 j)
    (192 * t + 192) (192 * t) (a6, a7, a8, a9) (by omega) ⟨Nat.le_refl _, fun j h1 h2 => absurd h1 (by omega), fun j _ => rfl⟩ ?_ ?_
  · rintro n ⟨b6, b7, b8, b9⟩ ⟨_, h1, h2⟩
    refine br_t (by rw [show (192 : Int32) * nI t + 192 = nI (192 * t + 192) from oc_ix t 192]; exact nI_le (Nat.le_refl _) (by omega)) ?_
    refine H (upd a4 t 0) b6 b7 b8 b9 ⟨?_, fun c hc => h1 _ (by omega) (by omega)⟩ ⟨fun u hu => pk_un hu, h2⟩
    rw [pk_us, oc_fl_e]
    rfl
  · rintro n i ⟨b6, b7, b8, b9⟩ hi ⟨h0, h1, h2⟩ hw
    dsimp only at h1 h2
    refine br_f (by rw [show (192 : Int32) * nI t + 192 = nI (192 * t + 192) from oc_ix t 192]; exact nI_ge hi (by omega)) ?_
    refine ⟨pk_in i 960 (by omega), nm_e ⟨pk_in i 960 (by omega), nm_e ⟨pk_in i 960 (by omega), nm_e ⟨pk_in i 960 (by omega), nm_e (nm_r (nI_1 i) ?_)⟩⟩⟩⟩
    dsimp only
    rw [nI_clamp (show i < 2 ^ 31 by omega)]
    refine hw (upd b6 i 0, upd b7 i 0, upd b8 i 10000, upd b9 i (-10000)) ⟨by omega, fun j g1 g2 => ?_, fun j g => ?_⟩
    · dsimp only
      by_cases e : j = i
      · rw [e, oc_g_s]
        rfl
      · rw [oc_g_n e]
        exact h1 j g1 (by omega)
    · dsimp only
      rw [oc_g_n (by omega)]
      exact h2 j g
theorem oc_enter_86 {post : St1 → Prop} {sz ck x6 z0 : Int32} {a1 a2 a3 a4 a5 a6 a7 a8 a9 : Nat → Int32} {k : Nat} (hk : k < 960)
    (hp : post (sz, ck, a1, a2, a3, a4, a5, a6, a7, upd a8 k z0, upd a9 k (oc_mx (a9 k) x6))) : wX_enter_86 post x6 (nI k) z0 (nI k) sz ck a1 a2 a3 a4 a5 a6 a7 a8 a9 := by
  unfold wX_enter_86
  rw [nI_clamp (show k < 2 ^ 31 by omega)]
  unfold oc_mx at hp
  refine ⟨pk_in k 960 hk, nm_e ⟨pk_in k 960 hk, br_c (fun h => ⟨pk_in k 960 hk, pk_in k 960 hk, nm_e ?_⟩) (fun h => ⟨pk_in k 960 hk, nm_e ?_⟩)⟩⟩
  · rw [if_pos h] at hp
    exact hp
  · rw [if_neg h] at hp
    exact hp
theorem oc_enter_31 {post : St1 → Prop} {sz ck x3 x4 x5 x6 z0 z1 : Int32} {a1 a2 a3 a4 a5 a6 a7 a8 a9 : Nat → Int32} {k s : Nat} (hk : k < 960) (hs : s < 5)
    (hp : post (sz, ck, a1, a2, a3, upd a4 s (z1 + z0), a5, upd a6 k (a6 k + x3), upd a7 k (a7 k + x4), upd a8 k (oc_mn (a8 k) x5), upd a9 k (oc_mx (a9 k) x6))) : wX_enter_31 post x3 x4 x5 x6 (nI k) z0 z1 (nI s) sz ck a1 a2 a3 a4 a5 a6 a7 a8 a9 := by
  unfold wX_enter_31
  rw [nI_clamp (show k < 2 ^ 31 by omega), nI_clamp (show s < 2 ^ 31 by omega)]
  unfold oc_mn at hp
  refine ⟨pk_in s 5 hs, nm_e ⟨pk_in k 960 hk, pk_in k 960 hk, nm_e ⟨pk_in k 960 hk, pk_in k 960 hk, nm_e ⟨pk_in k 960 hk, br_c (fun h => ⟨pk_in k 960 hk, oc_enter_86 hk ?_⟩) (fun h => oc_enter_86 hk ?_)⟩⟩⟩⟩
  · rw [if_pos h] at hp
    exact hp
  · rw [if_neg h] at hp
    exact hp
theorem oc_enter_w {post : St1 → Prop} {sz ck x3 x4 x5 x6 : Int32} {a1 a2 a3 a4 a5 a6 a7 a8 a9 : Nat → Int32} {c s : Nat} (hc : c < 192) (hs : s < 5)
    (hp : post (sz, ck, a1, a2, a3, upd a4 s (a4 s + (if a6 (192 * s + c) = 0 then 1 else 0)), a5, upd a6 (192 * s + c) (a6 (192 * s + c) + x3), upd a7 (192 * s + c) (a7 (192 * s + c) + x4), upd a8 (192 * s + c) (oc_mn (a8 (192 * s + c)) x5), upd a9 (192 * s + c) (oc_mx (a9 (192 * s + c)) x6))) :
    wpX_enter post (sz, ck, a1, a2, a3, a4, a5, a6, a7, a8, a9) (nI s) (nI c) x3 x4 x5 x6 := by
  have hk : 192 * s + c < 960 := by omega
  unfold wpX_enter
  refine nm_r (oc_ix s c) ⟨pk_in s 5 hs, pk_in (192 * s + c) 960 hk, ?_⟩
  rw [nI_clamp (show 192 * s + c < 2 ^ 31 by omega), nI_clamp (show s < 2 ^ 31 by omega)]
  refine br_c (fun h => oc_enter_31 hk hs ?_) (fun h => oc_enter_31 hk hs ?_)
  · rw [if_pos h] at hp
    exact hp
  · rw [if_neg h] at hp
    exact hp
theorem oc_enter {post : St1 → Prop} {sz ck : Int32} {a1 a2 a3 a4 a5 a6 a7 a8 a9 : Nat → Int32} {c s : Nat} {D : Nat → oc_D} {d : oc_D} (hc : c < 192) (hs : s < 5) (hd : 0 < d.1) (hb : (D c).1 + d.1 < 2 ^ 31)
    (h : oc_sl s D a4 a6 a7 a8 a9)
    (H : ∀ b4 b6 b7 b8 b9 : Nat → Int32, oc_sl s (oc_put D c d) b4 b6 b7 b8 b9 → oc_fr s a4 a6 a7 a8 a9 b4 b6 b7 b8 b9 → post (sz, ck, a1, a2, a3, b4, a5, b6, b7, b8, b9)) :
    wpX_enter post (sz, ck, a1, a2, a3, a4, a5, a6, a7, a8, a9) (nI s) (nI c) (nI d.1) d.2.1 d.2.2.1 d.2.2.2 := by
  obtain ⟨h1, h2⟩ := h
  have hc2 : oc_g a6 a7 a8 a9 (192 * s + c) = oc_w (D c) := h2 c hc
  unfold oc_g oc_w at hc2
  simp only [Prod.mk.injEq] at hc2
  obtain ⟨e6, e7, e8, e9⟩ := hc2
  refine oc_enter_w hc hs (H _ _ _ _ _ ⟨?_, fun j hj => ?_⟩ ⟨fun u hu => pk_un hu, fun j hj => oc_g_n (by omega)⟩)
  · rw [pk_us, h1, e6, oc_fl_put hd]
    by_cases z : (D c).1 = 0
    · rw [if_pos (by rw [z]; rfl), if_pos ⟨hc, z⟩, nI_1]
    · rw [if_neg (nI_ne0 (by omega) (by omega)), if_neg (fun t => z t.2), Int32.add_zero]
      rfl
  · by_cases e : j = c
    · rw [e, oc_g_s, oc_put_s, e6, e7, e8, e9, nI_add]
      rfl
    · rw [oc_g_n (by omega), oc_put_n e]
      exact h2 j hj
end
section
def oc_pl (a1 : Nat → Int32) (j : Nat) : Nat := (a1 j).toNatClampNeg
/-- what the n facts come to in cell c of view v -/
def oc_V (n : Nat) (a1 a2 : Nat → Int32) (v c : Nat) : oc_D := oc_ag (fun p => oc_seen v p == c) (oc_pl a1) a2 n
/-- the same, of the facts alone that lie below cell k of view v -/
def oc_U (n : Nat) (a1 a2 : Nat → Int32) (v w k c : Nat) : oc_D := oc_ag (fun p => decide (oc_seen v p < k) && (oc_seen w p == c)) (oc_pl a1) a2 n
def oc_F (n : Nat) (a1 : Nat → Int32) : Prop := n ≤ 40 ∧ ∀ j, j < n → oc_pl a1 j < 192 ∧ a1 j = nI (oc_pl a1 j)
def oc_S (s : Nat) (x : Int32) (n : Nat) (a1 a2 a4 a6 a7 a8 a9 : Nat → Int32) : Prop := x = -1 ∨ ∃ v, v < 48 ∧ x = nI v ∧ oc_sl s (oc_V n a1 a2 v) a4 a6 a7 a8 a9
def oc_I (n : Nat) (a1 a2 a3 a4 a6 a7 a8 a9 : Nat → Int32) : Prop := oc_F n a1 ∧ a3 0 = nI 0 ∧ ∀ s, s < 5 → oc_S s (a3 s) n a1 a2 a4 a6 a7 a8 a9
theorem oc_m1 {v : Nat} (hv : v < 48) (h : nI v = -1) : False := by
  have e : (nI v).toInt = (-1 : Int32).toInt := by rw [h]
  rw [nI_toInt (by omega)] at e
  have e2 : (-1 : Int32).toInt = -1 := by decide
  omega
theorem oc_S_get {s v n : Nat} {x : Int32} {a1 a2 a4 a6 a7 a8 a9 : Nat → Int32} (h : oc_S s x n a1 a2 a4 a6 a7 a8 a9) (hv : v < 48) (hx : x = nI v) : oc_sl s (oc_V n a1 a2 v) a4 a6 a7 a8 a9 := by
  rcases h with h | ⟨u, hu, e, hs⟩
  · exact absurd (hx.symm.trans h) (fun z => oc_m1 hv z)
  · have e2 : u = v := (nI_eq (by omega) (by omega)).mp (e.symm.trans hx)
    rw [e2] at hs
    exact hs
theorem oc_S_fr {s t n : Nat} {x : Int32} {a1 a2 a4 a6 a7 a8 a9 b4 b6 b7 b8 b9 : Nat → Int32} (hst : s ≠ t) (h : oc_S s x n a1 a2 a4 a6 a7 a8 a9) (g : oc_fr t a4 a6 a7 a8 a9 b4 b6 b7 b8 b9) : oc_S s x n a1 a2 b4 b6 b7 b8 b9 := by
  rcases h with h | ⟨v, hv, e, hs⟩
  · exact Or.inl h
  · exact Or.inr ⟨v, hv, e, oc_sl_fr hst hs g⟩
theorem oc_V_n {n : Nat} {a1 a2 : Nat → Int32} {v c : Nat} : (oc_V n a1 a2 v c).1 ≤ n := oc_ag_n n
theorem oc_U_n {n : Nat} {a1 a2 : Nat → Int32} {v w k c : Nat} : (oc_U n a1 a2 v w k c).1 ≤ n := oc_ag_n n
theorem oc_V_s {n : Nat} {a1 a2 : Nat → Int32} {v : Nat} : oc_put (oc_V n a1 a2 v) (oc_seen v (oc_pl a1 n)) (oc_one (a2 n)) = oc_V (n + 1) a1 a2 v := by
  funext c
  by_cases e : c = oc_seen v (oc_pl a1 n)
  · rw [e, oc_put_s]
    exact (oc_ag_t (P := fun p => oc_seen v p == oc_seen v (oc_pl a1 n)) (beq_self_eq_true _)).symm
  · rw [oc_put_n e]
    exact (oc_ag_f (P := fun p => oc_seen v p == c) (beq_false_of_ne (fun z => e z.symm))).symm
theorem oc_V_x {n : Nat} {a1 a2 b1 b2 : Nat → Int32} {v : Nat} (h : ∀ j, j < n → a1 j = b1 j ∧ a2 j = b2 j) : oc_V n a1 a2 v = oc_V n b1 b2 v := by
  funext c
  refine oc_ag_x n (fun j hj => ⟨?_, (h j hj).2⟩)
  show (oc_seen v (a1 j).toNatClampNeg == c) = (oc_seen v (b1 j).toNatClampNeg == c)
  rw [(h j hj).1]
theorem oc_U_0 {n : Nat} {a1 a2 : Nat → Int32} {v w c : Nat} : oc_U n a1 a2 v w 0 c = oc_e := by
  refine oc_ag_0 n (fun j _ => ?_)
  show (decide (oc_seen v (oc_pl a1 j) < 0) && (oc_seen w (oc_pl a1 j) == c)) = false
  rw [decide_eq_false (by omega)]
  rfl
theorem oc_U_e {n : Nat} {a1 a2 : Nat → Int32} {v w c : Nat} (hF : oc_F n a1) : oc_U n a1 a2 v w 192 c = oc_V n a1 a2 w c := by
  refine oc_ag_x n (fun j hj => ⟨?_, rfl⟩)
  show (decide (oc_seen v (oc_pl a1 j) < 192) && (oc_seen w (oc_pl a1 j) == c)) = (oc_seen w (oc_pl a1 j) == c)
  rw [decide_eq_true (oc_seen_lt (hF.2 j hj).1)]
  rfl
theorem oc_bl1 {x y i c c0 : Nat} (h : x = i → y = c0) (hc : c = c0) : (decide (x < i + 1) && (y == c)) = ((decide (x < i) && (y == c)) || (x == i)) ∧ ¬ ((decide (x < i) && (y == c)) = true ∧ (x == i) = true) := by
  constructor
  · rw [Bool.eq_iff_iff]
    simp only [Bool.and_eq_true, Bool.or_eq_true, decide_eq_true_eq, beq_iff_eq]
    constructor
    · rintro ⟨h1, h2⟩
      by_cases e : x = i
      · exact Or.inr e
      · exact Or.inl ⟨by omega, h2⟩
    · rintro (⟨h1, h2⟩ | h1)
      · exact ⟨by omega, h2⟩
      · exact ⟨by omega, by rw [h h1, hc]⟩
  · simp only [Bool.and_eq_true, decide_eq_true_eq, beq_iff_eq]
    rintro ⟨⟨h1, _⟩, h2⟩
    omega
theorem oc_bl2 {x y i c c0 : Nat} (h : x = i → y = c0) (hc : c ≠ c0) : (decide (x < i) && (y == c)) = (decide (x < i + 1) && (y == c)) := by
  rw [Bool.eq_iff_iff]
  simp only [Bool.and_eq_true, decide_eq_true_eq, beq_iff_eq]
  constructor
  · rintro ⟨h1, h2⟩
    exact ⟨by omega, h2⟩
  · rintro ⟨h1, h2⟩
    refine ⟨?_, h2⟩
    by_cases e : x = i
    · exact absurd (h2.symm.trans (h e)) hc
    · omega
theorem oc_U_s {n : Nat} {a1 a2 : Nat → Int32} {v w i c0 : Nat} (hF : oc_F n a1) (h : ∀ p, p < 192 → oc_seen v p = i → oc_seen w p = c0) : oc_put (oc_U n a1 a2 v w i) c0 (oc_V n a1 a2 v i) = oc_U n a1 a2 v w (i + 1) := by
  funext c
  by_cases e : c = c0
  · rw [e, oc_put_s]
    exact (oc_ag_u (P := fun p => decide (oc_seen v p < i) && (oc_seen w p == c0)) (Q := fun p => oc_seen v p == i) (R := fun p => decide (oc_seen v p < i + 1) && (oc_seen w p == c0)) n (fun j hj => oc_bl1 (h _ (hF.2 j hj).1) rfl)).symm
  · rw [oc_put_n e]
    exact oc_ag_x (P := fun p => decide (oc_seen v p < i) && (oc_seen w p == c)) (Q := fun p => decide (oc_seen v p < i + 1) && (oc_seen w p == c)) n (fun j hj => ⟨oc_bl2 (h _ (hF.2 j hj).1) e, rfl⟩)
/-- a cell without facts changes nothing -/
theorem oc_U_z {n : Nat} {a1 a2 : Nat → Int32} {v w i : Nat} (h : (oc_V n a1 a2 v i).1 = 0) : oc_U n a1 a2 v w i = oc_U n a1 a2 v w (i + 1) := by
  have hn := oc_ag_no n h
  funext c
  refine oc_ag_x (P := fun p => decide (oc_seen v p < i) && (oc_seen w p == c)) (Q := fun p => decide (oc_seen v p < i + 1) && (oc_seen w p == c)) n (fun j hj => ⟨?_, rfl⟩)
  have hx : oc_seen v (oc_pl a1 j) ≠ i := by
    have z : (oc_seen v (oc_pl a1 j) == i) = false := hn j hj
    exact ne_of_beq_false z
  exact oc_bl2 (c0 := c + 1) (fun z => absurd z hx) (by omega)
theorem oc_V_0 {n : Nat} {a1 a2 : Nat → Int32} {v : Nat} (h : n = 0) : oc_V n a1 a2 v = fun _ => oc_e := by
  rw [h]
  rfl
theorem oc_startAnew_27 {post : St1 → Prop} {ck : Int32} {a1 a2 a3 a4 a5 a6 a7 a8 a9 : Nat → Int32} {n : Nat} (hF : oc_F n a1) (h0 : oc_sl 0 (fun _ => oc_e) a4 a6 a7 a8 a9)
    (H : ∀ b4 b6 b7 b8 b9 : Nat → Int32, oc_sl 0 (oc_V n a1 a2 0) b4 b6 b7 b8 b9 → post (nI n, ck, a1, a2, a3, b4, a5, b6, b7, b8, b9)) :
    ∃ k, wX_startAnew_27 post k 0 (nI n) ck a1 a2 a3 a4 a5 a6 a7 a8 a9 := by
  have hn := hF.1
  refine pk_loop (σ := (Nat → Int32) × (Nat → Int32) × (Nat → Int32) × (Nat → Int32) × (Nat → Int32)) (fun k i s => wX_startAnew_27 post k (nI i) (nI n) ck a1 a2 a3 s.1 a5 s.2.1 s.2.2.1 s.2.2.2.1 s.2.2.2.2)
    (fun i s => oc_sl 0 (oc_V i a1 a2 0) s.1 s.2.1 s.2.2.1 s.2.2.2.1 s.2.2.2.2) n 0 (a4, a6, a7, a8, a9) (by omega) h0 ?_ ?_
  · rintro k ⟨b4, b6, b7, b8, b9⟩ h
    exact pk_le n n (fun _ => H b4 b6 b7 b8 b9 h) (fun z => absurd z (by omega))
  · rintro k i ⟨b4, b6, b7, b8, b9⟩ hi h hw
    obtain ⟨p1, p2⟩ := hF.2 i hi
    refine pk_le n i (fun z => absurd z (by omega)) (fun _ => ⟨pk_in i 40 (by omega), pk_in i 40 (by omega), pk_in i 40 (by omega), pk_in i 40 (by omega), ?_⟩)
    dsimp only at h ⊢
    rw [nI_clamp (show i < 2 ^ 31 by omega), p2]
    refine oc_enter (s := 0) (D := oc_V i a1 a2 0) (d := oc_one (a2 i)) p1 (by omega) (Nat.zero_lt_one) (Nat.lt_of_le_of_lt (Nat.add_le_add_right oc_V_n 1) (by omega)) h (fun c4 c6 c7 c8 c9 g _ => nm_r (nI_1 i) (hw (c4, c6, c7, c8, c9) ?_))
    have e := oc_V_s (n := i) (a1 := a1) (a2 := a2) (v := 0)
    rw [oc_seen_0 p1] at e
    rw [e] at g
    exact g
theorem oc_I_new {n : Nat} {a1 a2 a3 a4 a6 a7 a8 a9 : Nat → Int32} (hF : oc_F n a1) (h0 : a3 0 = nI 0) (h1 : ∀ j, 1 ≤ j → j < 5 → a3 j = -1) (h : oc_sl 0 (oc_V n a1 a2 0) a4 a6 a7 a8 a9) : oc_I n a1 a2 a3 a4 a6 a7 a8 a9 := by
  refine ⟨hF, h0, fun s hs => ?_⟩
  by_cases e : s = 0
  · rw [e]
    exact Or.inr ⟨0, by omega, h0, h⟩
  · exact Or.inl (h1 s (by omega) hs)
theorem oc_no1 {s : Nat → Int32} {i : Nat} (h0 : s 0 = nI 0) (h1 : ∀ j, 1 ≤ j → j < i → s j = -1) (hi : 1 ≤ i) : upd s i (-1) 0 = nI 0 ∧ ∀ j, 1 ≤ j → j < i + 1 → upd s i (-1) j = -1 := by
  refine ⟨by rw [pk_un (by omega)]; exact h0, fun j g1 g2 => ?_⟩
  by_cases e : j = i
  · rw [e, pk_us]
  · rw [pk_un e]
    exact h1 j g1 (by omega)
theorem oc_startAnew {post : St1 → Prop} {ck : Int32} {a1 a2 a3 a4 a5 a6 a7 a8 a9 : Nat → Int32} {n : Nat} (hF : oc_F n a1) (h3 : a3 0 = nI 0)
    (H : ∀ b3 b4 b6 b7 b8 b9 : Nat → Int32, oc_I n a1 a2 b3 b4 b6 b7 b8 b9 → post (nI n, ck, a1, a2, b3, b4, a5, b6, b7, b8, b9)) :
    wpX_startAnew post (nI n, ck, a1, a2, a3, a4, a5, a6, a7, a8, a9) := by
  unfold wpX_startAnew
  refine pk_loop (σ := Nat → Int32) (fun k i s => wX_startAnew_2 post (nI n) ck k (nI i) a1 a2 s a4 a5 a6 a7 a8 a9) (fun i s => 1 ≤ i ∧ s 0 = nI 0 ∧ ∀ j, 1 ≤ j → j < i → s j = -1) 5 1 a3 (by omega) ⟨by omega, h3, fun j g1 g2 => absurd g1 (by omega)⟩ ?_ ?_
  · rintro k s ⟨_, g0, g1⟩
    refine pk_le 5 5 (fun _ => oc_wipe (t := 0) (by omega) (fun b4 b6 b7 b8 b9 hs _ => oc_startAnew_27 hF hs (fun c4 c6 c7 c8 c9 hc => H s c4 c6 c7 c8 c9 (oc_I_new hF g0 g1 hc)))) (fun z => absurd z (by omega))
  · rintro k i s hi ⟨gi, g0, g1⟩ hw
    refine pk_le 5 i (fun z => absurd z (by omega)) (fun _ => ⟨pk_in i 5 hi, nm_e (nm_r (nI_1 i) ?_)⟩)
    rw [nI_clamp (show i < 2 ^ 31 by omega)]
    have t := oc_no1 g0 g1 gi
    exact hw _ ⟨by omega, t.1, t.2⟩
theorem oc_init {post : St1 → Prop} (H : ∀ b1 b2 b3 b4 b5 b6 b7 b8 b9 : Nat → Int32, oc_I 0 b1 b2 b3 b4 b6 b7 b8 b9 → post (nI 0, 0, b1, b2, b3, b4, b5, b6, b7, b8, b9)) : wpX_init post 9 3935 (0, 0) := by
  unfold wpX_init
  refine ⟨by decide, by decide, by decide, by decide, by decide, by decide, by decide, by decide, by decide, by decide, by decide, by decide, by decide, by decide, by decide, by decide, by decide, by decide, ?_⟩
  refine pk_loop (σ := Nat → Int32) (fun k i s => wX_init_79 post 9 3935 9 3935 0 0 k (nI i) (fun _ => 0) (fun _ => 0) s (fun _ => 0) (fun _ => 0) (fun _ => 0) (fun _ => 0) (fun _ => 0) (fun _ => 0)) (fun i s => 1 ≤ i ∧ s 0 = nI 0 ∧ ∀ j, 1 ≤ j → j < i → s j = -1) 5 1 (fun _ => 0) (by omega) ⟨by omega, rfl, fun j g1 g2 => absurd g1 (by omega)⟩ ?_ ?_
  · rintro k s ⟨_, g0, g1⟩
    refine pk_le 5 5 (fun _ => oc_wipe (t := 0) (by omega) (fun b4 b6 b7 b8 b9 hs _ => H _ _ s b4 _ b6 b7 b8 b9 (oc_I_new ⟨by omega, fun j hj => absurd hj (by omega)⟩ g0 g1 hs))) (fun z => absurd z (by omega))
  · rintro k i s hi ⟨gi, g0, g1⟩ hw
    refine pk_le 5 i (fun z => absurd z (by omega)) (fun _ => ⟨pk_in i 5 hi, nm_e (nm_r (nI_1 i) ?_)⟩)
    rw [nI_clamp (show i < 2 ^ 31 by omega)]
    have t := oc_no1 g0 g1 gi
    exact hw _ ⟨by omega, t.1, t.2⟩
theorem oc_F_s {n p : Nat} {a1 : Nat → Int32} (hF : oc_F n a1) (hn : n < 40) (hp : p < 192) : oc_F (n + 1) (upd a1 n (nI p)) := by
  refine ⟨by omega, fun j hj => ?_⟩
  unfold oc_pl
  by_cases e : j = n
  · rw [e, pk_us, nI_clamp (by omega)]
    exact ⟨hp, rfl⟩
  · rw [pk_un e]
    exact hF.2 j (by omega)
theorem oc_add {post : St1 → Prop} {ck m : Int32} {a1 a2 a3 a4 a5 a6 a7 a8 a9 : Nat → Int32} {n p : Nat} (hI : oc_I n a1 a2 a3 a4 a6 a7 a8 a9) (hn : n < 40) (hp : p < 192)
    (H : ∀ b1 b2 b4 b6 b7 b8 b9 : Nat → Int32, oc_I (n + 1) b1 b2 a3 b4 b6 b7 b8 b9 → post (nI (n + 1), ck, b1, b2, a3, b4, a5, b6, b7, b8, b9)) :
    wpX_add post (nI n, ck, a1, a2, a3, a4, a5, a6, a7, a8, a9) (nI p) m := by
  obtain ⟨hF, h3, hS⟩ := hI
  have hF' := oc_F_s hF hn hp
  unfold wpX_add
  refine ⟨pk_in n 40 hn, nm_e ⟨pk_in n 40 hn, nm_e (nm_r (nI_1 n) ?_)⟩⟩
  rw [nI_clamp (show n < 2 ^ 31 by omega)]
  have ep : oc_pl (upd a1 n (nI p)) n = p := by
    unfold oc_pl
    rw [pk_us, nI_clamp (by omega)]
  have em : upd a2 n m n = m := pk_us
  generalize hb1 : upd a1 n (nI p) = b1 at hF' ep ⊢
  generalize hb2 : upd a2 n m = b2 at em ⊢
  have eV : ∀ v, oc_V n a1 a2 v = oc_V n b1 b2 v := fun v => oc_V_x (fun j hj => by
    rw [← hb1, ← hb2, pk_un (by omega), pk_un (by omega)]
    exact ⟨rfl, rfl⟩)
  refine pk_loop (σ := (Nat → Int32) × (Nat → Int32) × (Nat → Int32) × (Nat → Int32) × (Nat → Int32)) (fun k i s => wX_add_32 post (nI p) m k (nI i) (nI (n + 1)) ck b1 b2 a3 s.1 a5 s.2.1 s.2.2.1 s.2.2.2.1 s.2.2.2.2)
    (fun i s => ∀ u, u < 5 → oc_S u (a3 u) (if u < i then n + 1 else n) b1 b2 s.1 s.2.1 s.2.2.1 s.2.2.2.1 s.2.2.2.2) 5 0 (a4, a6, a7, a8, a9) (by omega) ?_ ?_ ?_
  · intro u hu
    rw [if_neg (by omega)]
    rcases hS u hu with z | ⟨v, hv, e, hs⟩
    · exact Or.inl z
    · rw [eV v] at hs
      exact Or.inr ⟨v, hv, e, hs⟩
  · rintro k ⟨b4, b6, b7, b8, b9⟩ h
    refine pk_le 5 5 (fun _ => H b1 b2 b4 b6 b7 b8 b9 ⟨hF', h3, fun u hu => ?_⟩) (fun z => absurd z (by omega))
    have t := h u hu
    rw [if_pos hu] at t
    exact t
  · rintro k i ⟨b4, b6, b7, b8, b9⟩ hi h hw
    dsimp only at h hw
    have hi' := h i hi
    rw [if_neg (by omega)] at hi'
    refine pk_le 5 i (fun z => absurd z (by omega)) (fun _ => ⟨pk_in i 5 hi, ?_⟩)
    dsimp only
    rw [nI_clamp (show i < 2 ^ 31 by omega)]
    refine br_c (fun z => nm_r (nI_1 i) (hw (b4, b6, b7, b8, b9) (fun u hu => ?_))) (fun z => ⟨pk_in i 5 hi, ?_⟩)
    · by_cases e : u = i
      · rw [e]
        exact Or.inl z
      · have t := h u hu
        rw [show (if u < i + 1 then n + 1 else n) = (if u < i then n + 1 else n) from by
          by_cases q : u < i
          · rw [if_pos q, if_pos (by omega)]
          · rw [if_neg q, if_neg (by omega)]]
        exact t
    · rcases hi' with y | ⟨v, hv, e, hs⟩
      · exact absurd y z
      · rw [e]
        refine oc_seenAs hv (by omega) ?_
        refine oc_enter (s := i) (D := oc_V n b1 b2 v) (d := oc_one m) (oc_seen_lt hp) hi Nat.zero_lt_one (Nat.lt_of_le_of_lt (Nat.add_le_add_right oc_V_n 1) (by omega)) hs (fun c4 c6 c7 c8 c9 g gf => nm_r (nI_1 i) (hw (c4, c6, c7, c8, c9) (fun u hu => ?_)))
        by_cases q : u = i
        · rw [q, if_pos (by omega)]
          have e' := oc_V_s (n := n) (a1 := b1) (a2 := b2) (v := v)
          rw [ep, em] at e'
          rw [e'] at g
          exact Or.inr ⟨v, hv, e, g⟩
        · have t := oc_S_fr q (h u hu) gf
          rw [show (if u < i + 1 then n + 1 else n) = (if u < i then n + 1 else n) from by
            by_cases q : u < i
            · rw [if_pos q, if_pos (by omega)]
            · rw [if_neg q, if_neg (by omega)]]
          exact t
theorem oc_workOut {post : St1 → Prop} {ck : Int32} {a1 a2 a3 a4 a5 a6 a7 a8 a9 : Nat → Int32} {n s t v w : Nat} (hI : oc_I n a1 a2 a3 a4 a6 a7 a8 a9) (hs : s < 5) (ht : t < 5) (ht1 : 1 ≤ t) (hst : s ≠ t) (hv : v < 48) (hw : w < 48) (hsv : a3 s = nI v) (hf : oc_fin v w)
    (H : ∀ b3 b4 b5 b6 b7 b8 b9 : Nat → Int32, oc_sl t (oc_V n a1 a2 w) b4 b6 b7 b8 b9 → oc_I n a1 a2 b3 b4 b6 b7 b8 b9 → post (nI n, ck, a1, a2, b3, b4, b5, b6, b7, b8, b9)) :
    wpX_workOut post (nI n, ck, a1, a2, a3, a4, a5, a6, a7, a8, a9) (nI w) (nI s) (nI t) := by
  obtain ⟨hF, h3, hS⟩ := hI
  have hn := hF.1
  have hsl := oc_S_get (hS s hs) hv hsv
  unfold wpX_workOut
  refine oc_wipe ht (fun b4 b6 b7 b8 b9 he hfr => ⟨pk_in t 5 ht, nm_e ⟨pk_in t 5 ht, nm_e ?_⟩⟩)
  rw [nI_clamp (show t < 2 ^ 31 by omega)]
  refine pk_loop (σ := (Nat → Int32) × (Nat → Int32) × (Nat → Int32) × (Nat → Int32) × (Nat → Int32)) (fun k i q => wX_workOut_25 post (nI w) (nI s) (nI t) k (nI i) (nI n) ck a1 a2 (upd a3 t (nI w)) q.1 (upd a5 t ck) q.2.1 q.2.2.1 q.2.2.2.1 q.2.2.2.2)
    (fun i q => oc_sl t (oc_U n a1 a2 v w i) q.1 q.2.1 q.2.2.1 q.2.2.2.1 q.2.2.2.2 ∧ oc_fr t a4 a6 a7 a8 a9 q.1 q.2.1 q.2.2.1 q.2.2.2.1 q.2.2.2.2) 192 0 (b4, b6, b7, b8, b9) (by omega) ⟨oc_sl_x he (fun c _ => oc_U_0.symm), hfr⟩ ?_ ?_
  · rintro k ⟨c4, c6, c7, c8, c9⟩ ⟨g1, g2⟩
    dsimp only at g1 g2
    have g3 := oc_sl_x g1 (fun c _ => oc_U_e hF)
    refine pk_le 192 192 (fun _ => H (upd a3 t (nI w)) c4 (upd a5 t ck) c6 c7 c8 c9 g3 ⟨hF, ?_, fun u hu => ?_⟩) (fun z => absurd z (by omega))
    · rw [pk_un (by omega)]
      exact h3
    · by_cases e : u = t
      · rw [e, pk_us]
        exact Or.inr ⟨w, hw, rfl, g3⟩
      · rw [pk_un e]
        exact oc_S_fr e (hS u hu) g2
  · rintro k i ⟨c4, c6, c7, c8, c9⟩ hi ⟨g1, g2⟩ hnext
    dsimp only at g1 g2 hnext
    have hcell := (oc_sl_fr hst hsl g2).2 i hi
    unfold oc_g oc_w at hcell
    simp only [Prod.mk.injEq] at hcell
    obtain ⟨e6, e7, e8, e9⟩ := hcell
    have hix : 192 * s + i < 960 := by omega
    have hVn := oc_V_n (n := n) (a1 := a1) (a2 := a2) (v := v) (c := i)
    refine pk_le 192 i (fun z => absurd z (by omega)) (fun _ => nm_r (oc_ix s i) ⟨pk_in (192 * s + i) 960 hix, ?_⟩)
    dsimp only
    rw [nI_clamp (show 192 * s + i < 2 ^ 31 by omega), nI_clamp (show s < 2 ^ 31 by omega), pk_un hst, hsv, e6, e7, e8, e9]
    refine pk_le (oc_V n a1 a2 v i).1 0 (fun z => nm_r (nI_1 i) (hnext (c4, c6, c7, c8, c9) ⟨?_, g2⟩)) (fun z => ⟨pk_in s 5 hs, oc_cellFrom hv hw hi ⟨pk_in (192 * s + i) 960 hix, pk_in (192 * s + i) 960 hix, pk_in (192 * s + i) 960 hix, pk_in (192 * s + i) 960 hix, ?_⟩⟩)
    · rw [← oc_U_z (by omega)]
      exact g1
    · obtain ⟨j, hj, hP⟩ := oc_ag_ex n z
      have hj1 := (hF.2 j hj).1
      have hP' : oc_seen v (oc_pl a1 j) = i := eq_of_beq hP
      have hto : ∀ p, p < 192 → oc_seen v p = i → oc_seen w p = oc_seen w (oc_rep v i) := fun p hp e => by
        rw [← e, oc_fin_p hv hw hf hp]
      have hlt : oc_seen w (oc_rep v i) < 192 := by
        rw [← hto _ hj1 hP']
        exact oc_seen_lt hj1
      have hUn := oc_U_n (n := n) (a1 := a1) (a2 := a2) (v := v) (w := w) (k := i) (c := oc_seen w (oc_rep v i))
      refine oc_enter (D := oc_U n a1 a2 v w i) (d := oc_V n a1 a2 v i) hlt ht z (by omega) g1 (fun d4 d6 d7 d8 d9 y yf => nm_r (nI_1 i) (hnext (d4, d6, d7, d8, d9) ⟨?_, oc_fr_t g2 yf⟩))
      rw [oc_U_s hF hto] at y
      exact y
end
section
theorem oc_sf_130 {post : Int32 → St1 → Prop} {ck : Int32} {a1 a2 a3 a4 a5 a6 a7 a8 a9 : Nat → Int32} {n s t v w : Nat} (hI : oc_I n a1 a2 a3 a4 a6 a7 a8 a9) (hs : s < 5) (ht : t < 5) (ht1 : 1 ≤ t) (hst : s ≠ t) (hv : v < 48) (hw : w < 48) (hsv : a3 s = nI v) (hf : oc_fin v w)
    (H : ∀ (r : Nat) (b3 b4 b5 b6 b7 b8 b9 : Nat → Int32), r < 5 → oc_sl r (oc_V n a1 a2 w) b4 b6 b7 b8 b9 → oc_I n a1 a2 b3 b4 b6 b7 b8 b9 → post (nI r) (nI n, ck, a1, a2, b3, b4, b5, b6, b7, b8, b9)) :
    ∃ k, wX_slotFor_130 post (nI w) (nI s) (nI n) ck a1 a2 a3 a4 a5 a6 a7 a8 a9 k (nI t) 1 := by
  refine pk_loop (σ := Nat) (fun k i q => wX_slotFor_130 post (nI w) (nI s) (nI n) ck a1 a2 a3 a4 a5 a6 a7 a8 a9 k (nI q) (nI i)) (fun i q => 1 ≤ i ∧ 1 ≤ q ∧ q < 5 ∧ s ≠ q) 5 1 t (by omega) ⟨by omega, ht1, ht, hst⟩ ?_ ?_
  · rintro k q ⟨_, q1, q2, q3⟩
    exact pk_le 5 5 (fun _ => oc_workOut hI hs q2 q1 q3 hv hw hsv hf (fun b3 b4 b5 b6 b7 b8 b9 g1 g2 => H q b3 b4 b5 b6 b7 b8 b9 q2 g1 g2)) (fun z => absurd z (by omega))
  · rintro k i q hi ⟨i1, q1, q2, q3⟩ hnext
    have hA := hnext q ⟨by omega, q1, q2, q3⟩
    refine pk_le 5 i (fun z => absurd z (by omega)) (fun _ => pk_eq i s (fun _ => nm_r (nI_1 i) hA) (fun z => ⟨pk_in i 5 hi, ?_⟩))
    have hB := hnext i ⟨by omega, i1, hi, fun y => z y.symm⟩
    have h169 : wX_slotFor_169 post (wX_slotFor_130 post (nI w) (nI s) (nI n) ck a1 a2 a3 a4 a5 a6 a7 a8 a9 k) (nI w) (nI s) (nI q) (nI i) (nI n) ck a1 a2 a3 a4 a5 a6 a7 a8 a9 := by
      unfold wX_slotFor_169
      exact ⟨pk_in q 5 q2, br_c (fun _ => nm_r (nI_1 i) hA) (fun _ => nm_r (nI_1 i) hB)⟩
    exact br_c (fun _ => h169) (fun _ => ⟨pk_in i 5 hi, pk_in q 5 q2, br_c (fun _ => nm_r (nI_1 i) hA) (fun _ => h169)⟩)
theorem oc_sf_82 {post : Int32 → St1 → Prop} {J : Int32 → Int32 → Prop} {x1 z0 sz ck : Int32} {a1 a2 a3 a4 a5 a6 a7 a8 a9 : Nat → Int32} {s i : Nat} (hs : s < 5) (hi : i < 5) (h0 : J (nI s) (nI (i + 1))) (h1 : ¬ z0 = 0 → J (nI i) (nI (i + 1))) : wX_slotFor_82 post J x1 (nI s) (nI i) z0 sz ck a1 a2 a3 a4 a5 a6 a7 a8 a9 := by
  unfold wX_slotFor_82
  exact br_c (fun _ => nm_r (nI_1 i) h0) (fun z => ⟨pk_in i 5 hi, pk_in s 5 hs, br_c (fun _ => nm_r (nI_1 i) h0) (fun _ => nm_r (nI_1 i) (h1 z))⟩)
theorem oc_sf_49 {post : Int32 → St1 → Prop} {ck : Int32} {a1 a2 a3 a4 a5 a6 a7 a8 a9 : Nat → Int32} {n w : Nat} (hI : oc_I n a1 a2 a3 a4 a6 a7 a8 a9) (hw : w < 48)
    (H : ∀ (r : Nat) (b3 b4 b5 b6 b7 b8 b9 : Nat → Int32), r < 5 → oc_sl r (oc_V n a1 a2 w) b4 b6 b7 b8 b9 → oc_I n a1 a2 b3 b4 b6 b7 b8 b9 → post (nI r) (nI n, ck, a1, a2, b3, b4, b5, b6, b7, b8, b9)) :
    ∃ k, wX_slotFor_49 post (nI w) (nI n) ck a1 a2 a3 a4 a5 a6 a7 a8 a9 k 0 1 := by
  refine pk_loop (σ := Nat) (fun k i q => wX_slotFor_49 post (nI w) (nI n) ck a1 a2 a3 a4 a5 a6 a7 a8 a9 k (nI q) (nI i)) (fun i q => 1 ≤ i ∧ q < 5 ∧ ∃ v, v < 48 ∧ a3 q = nI v ∧ oc_fin v w) 5 1 0 (by omega) ⟨by omega, by omega, 0, by omega, hI.2.1, oc_fin_0 w⟩ ?_ ?_
  · rintro k q ⟨_, q1, v, hv, e, hf⟩
    exact pk_le 5 5 (fun _ => pk_eq q 1 (fun z => oc_sf_130 (t := 2) hI q1 (by omega) (by omega) (by omega) hv hw e hf H) (fun z => oc_sf_130 (t := 1) hI q1 (by omega) (by omega) (by omega) hv hw e hf H)) (fun z => absurd z (by omega))
  · rintro k i q hi ⟨i1, q1, v, hv, e, hf⟩ hnext
    have hA := hnext q ⟨by omega, q1, v, hv, e, hf⟩
    have h81 : wX_slotFor_81 post (wX_slotFor_49 post (nI w) (nI n) ck a1 a2 a3 a4 a5 a6 a7 a8 a9 k) (nI w) (nI q) (nI i) (nI n) ck a1 a2 a3 a4 a5 a6 a7 a8 a9 := by
      unfold wX_slotFor_81
      exact oc_sf_82 q1 hi hA (fun z => absurd rfl z)
    refine pk_le 5 i (fun z => absurd z (by omega)) (fun _ => ⟨pk_in i 5 hi, br_c (fun _ => h81) (fun z => ⟨pk_in i 5 hi, ?_⟩)⟩)
    rw [nI_clamp (show i < 2 ^ 31 by omega)] at z ⊢
    rcases hI.2.2 i hi with y | ⟨u, hu, eu, _⟩
    · exact absurd y z
    · rw [eu]
      refine oc_isFiner hu hw (br_t rfl h81) (fun hfu => br_f (by decide) ?_)
      exact oc_sf_82 q1 hi hA (fun _ => hnext i ⟨by omega, hi, u, hu, eu, hfu⟩)
theorem oc_slotFor {post : Int32 → St1 → Prop} {ck : Int32} {a1 a2 a3 a4 a5 a6 a7 a8 a9 : Nat → Int32} {n w : Nat} (hI : oc_I n a1 a2 a3 a4 a6 a7 a8 a9) (hw : w < 48)
    (H : ∀ (r : Nat) (ck' : Int32) (b3 b4 b5 b6 b7 b8 b9 : Nat → Int32), r < 5 → oc_sl r (oc_V n a1 a2 w) b4 b6 b7 b8 b9 → oc_I n a1 a2 b3 b4 b6 b7 b8 b9 → post (nI r) (nI n, ck', a1, a2, b3, b4, b5, b6, b7, b8, b9)) :
    wpX_slotFor post (nI n, ck, a1, a2, a3, a4, a5, a6, a7, a8, a9) (nI w) := by
  unfold wpX_slotFor
  refine nm_e ?_
  refine pk_loop (σ := Unit) (fun k i _ => wX_slotFor_12 post (nI w) (nI n) (ck + 1) a1 a2 a3 a4 a5 a6 a7 a8 a9 k (nI i)) (fun _ _ => True) 5 0 () (by omega) trivial ?_ ?_
  · intro k _ _
    exact pk_le 5 5 (fun _ => oc_sf_49 hI hw (fun r b3 b4 b5 b6 b7 b8 b9 => H r (ck + 1) b3 b4 b5 b6 b7 b8 b9)) (fun z => absurd z (by omega))
  · intro k i _ hi _ hnext
    refine pk_le 5 i (fun z => absurd z (by omega)) (fun _ => ⟨pk_in i 5 hi, br_c (fun z => ⟨pk_in i 5 hi, nm_e ?_⟩) (fun _ => nm_r (nI_1 i) (hnext () trivial))⟩)
    rw [nI_clamp (show i < 2 ^ 31 by omega)] at z
    exact H i (ck + 1) a3 a4 _ a6 a7 a8 a9 hi (oc_S_get (hI.2.2 i hi) hw z) hI
theorem oc_full {post : Int32 → St1 → Prop} {ck : Int32} {a1 a2 a3 a4 a5 a6 a7 a8 a9 : Nat → Int32} {n w : Nat} (hI : oc_I n a1 a2 a3 a4 a6 a7 a8 a9) (hw : w < 48)
    (H : ∀ (ck' : Int32) (b3 b4 b5 b6 b7 b8 b9 : Nat → Int32), oc_I n a1 a2 b3 b4 b6 b7 b8 b9 → post (nI (oc_fl (oc_V n a1 a2 w) 192)) (nI n, ck', a1, a2, b3, b4, b5, b6, b7, b8, b9)) :
    wpX_full post (nI n, ck, a1, a2, a3, a4, a5, a6, a7, a8, a9) (nI w) := by
  unfold wpX_full
  refine oc_viewT hw (br_f (by decide) (oc_slotFor hI hw (fun r ck' b3 b4 b5 b6 b7 b8 b9 hr hs hI' => ⟨pk_in r 5 hr, ?_⟩)))
  rw [nI_clamp (show r < 2 ^ 31 by omega), hs.1]
  exact H ck' b3 b4 b5 b6 b7 b8 b9 hI'
theorem oc_cellE {r c : Nat} {D : Nat → oc_D} {b4 b6 b7 b8 b9 : Nat → Int32} (hs : oc_sl r D b4 b6 b7 b8 b9) (hc : c < 192) : b6 (192 * r + c) = nI (D c).1 ∧ b7 (192 * r + c) = (D c).2.1 ∧ b8 (192 * r + c) = (D c).2.2.1 ∧ b9 (192 * r + c) = (D c).2.2.2 := by
  have h := hs.2 c hc
  unfold oc_g oc_w at h
  simp only [Prod.mk.injEq] at h
  exact h
theorem oc_count {post : Int32 → St1 → Prop} {ck : Int32} {a1 a2 a3 a4 a5 a6 a7 a8 a9 : Nat → Int32} {n w c : Nat} (hI : oc_I n a1 a2 a3 a4 a6 a7 a8 a9) (hw : w < 48) (hc : c < 192)
    (H : ∀ (ck' : Int32) (b3 b4 b5 b6 b7 b8 b9 : Nat → Int32), oc_I n a1 a2 b3 b4 b6 b7 b8 b9 → post (nI (oc_V n a1 a2 w c).1) (nI n, ck', a1, a2, b3, b4, b5, b6, b7, b8, b9)) :
    wpX_count post (nI n, ck, a1, a2, a3, a4, a5, a6, a7, a8, a9) (nI w) (nI c) := by
  unfold wpX_count
  refine oc_viewT hw (br_f (by decide) (oc_cellT hc (br_f (by decide) (oc_slotFor hI hw (fun r ck' b3 b4 b5 b6 b7 b8 b9 hr hs hI' => ⟨pk_in (192 * r + c) 960 (by omega) (oc_ix r c), ?_⟩)))))
  rw [oc_ix, nI_clamp (show 192 * r + c < 2 ^ 31 by omega), (oc_cellE hs hc).1]
  exact H ck' b3 b4 b5 b6 b7 b8 b9 hI'
theorem oc_sum {post : Int32 → St1 → Prop} {ck : Int32} {a1 a2 a3 a4 a5 a6 a7 a8 a9 : Nat → Int32} {n w c : Nat} (hI : oc_I n a1 a2 a3 a4 a6 a7 a8 a9) (hw : w < 48) (hc : c < 192)
    (H : ∀ (ck' : Int32) (b3 b4 b5 b6 b7 b8 b9 : Nat → Int32), oc_I n a1 a2 b3 b4 b6 b7 b8 b9 → post (oc_V n a1 a2 w c).2.1 (nI n, ck', a1, a2, b3, b4, b5, b6, b7, b8, b9)) :
    wpX_sum post (nI n, ck, a1, a2, a3, a4, a5, a6, a7, a8, a9) (nI w) (nI c) := by
  unfold wpX_sum
  refine oc_viewT hw (br_f (by decide) (oc_cellT hc (br_f (by decide) (oc_slotFor hI hw (fun r ck' b3 b4 b5 b6 b7 b8 b9 hr hs hI' => ⟨pk_in (192 * r + c) 960 (by omega) (oc_ix r c), ?_⟩)))))
  rw [oc_ix, nI_clamp (show 192 * r + c < 2 ^ 31 by omega), (oc_cellE hs hc).2.1]
  exact H ck' b3 b4 b5 b6 b7 b8 b9 hI'
theorem oc_least {post : Int32 → St1 → Prop} {ck : Int32} {a1 a2 a3 a4 a5 a6 a7 a8 a9 : Nat → Int32} {n w c : Nat} (hI : oc_I n a1 a2 a3 a4 a6 a7 a8 a9) (hw : w < 48) (hc : c < 192)
    (H : ∀ (ck' : Int32) (b3 b4 b5 b6 b7 b8 b9 : Nat → Int32), oc_I n a1 a2 b3 b4 b6 b7 b8 b9 → post (oc_V n a1 a2 w c).2.2.1 (nI n, ck', a1, a2, b3, b4, b5, b6, b7, b8, b9)) :
    wpX_least post (nI n, ck, a1, a2, a3, a4, a5, a6, a7, a8, a9) (nI w) (nI c) := by
  unfold wpX_least
  refine oc_viewT hw (br_f (by decide) (oc_cellT hc (br_f (by decide) (oc_slotFor hI hw (fun r ck' b3 b4 b5 b6 b7 b8 b9 hr hs hI' => ⟨pk_in (192 * r + c) 960 (by omega) (oc_ix r c), ?_⟩)))))
  rw [oc_ix, nI_clamp (show 192 * r + c < 2 ^ 31 by omega), (oc_cellE hs hc).2.2.1]
  exact H ck' b3 b4 b5 b6 b7 b8 b9 hI'
theorem oc_most {post : Int32 → St1 → Prop} {ck : Int32} {a1 a2 a3 a4 a5 a6 a7 a8 a9 : Nat → Int32} {n w c : Nat} (hI : oc_I n a1 a2 a3 a4 a6 a7 a8 a9) (hw : w < 48) (hc : c < 192)
    (H : ∀ (ck' : Int32) (b3 b4 b5 b6 b7 b8 b9 : Nat → Int32), oc_I n a1 a2 b3 b4 b6 b7 b8 b9 → post (oc_V n a1 a2 w c).2.2.2 (nI n, ck', a1, a2, b3, b4, b5, b6, b7, b8, b9)) :
    wpX_most post (nI n, ck, a1, a2, a3, a4, a5, a6, a7, a8, a9) (nI w) (nI c) := by
  unfold wpX_most
  refine oc_viewT hw (br_f (by decide) (oc_cellT hc (br_f (by decide) (oc_slotFor hI hw (fun r ck' b3 b4 b5 b6 b7 b8 b9 hr hs hI' => ⟨pk_in (192 * r + c) 960 (by omega) (oc_ix r c), ?_⟩)))))
  rw [oc_ix, nI_clamp (show 192 * r + c < 2 ^ 31 by omega), (oc_cellE hs hc).2.2.2]
  exact H ck' b3 b4 b5 b6 b7 b8 b9 hI'
/-- the next full cell of view 0 from f on, or 192 -/
def oc_nx (n : Nat) (a1 a2 : Nat → Int32) (f c : Nat) : Prop := f ≤ c ∧ c ≤ 192 ∧ (c < 192 → 0 < (oc_V n a1 a2 0 c).1) ∧ ∀ d, f ≤ d → d < c → (oc_V n a1 a2 0 d).1 = 0
def oc_p (c : Nat) : Int32 := if c < 192 then nI c else -2
theorem oc_next_30 {post : Int32 → St1 → Prop} {x ck : Int32} {a1 a2 a3 a4 a5 a6 a7 a8 a9 : Nat → Int32} {n r f : Nat} (hF : oc_F n a1) (hr : r < 5) (hf : f ≤ 192) (hs : oc_sl r (oc_V n a1 a2 0) a4 a6 a7 a8 a9) (hx : ∀ i, i < 192 → (nI i ≤ x ↔ i < f))
    (H : ∀ c, oc_nx n a1 a2 f c → post (oc_p c) (nI n, ck, a1, a2, a3, a4, a5, a6, a7, a8, a9)) :
    ∃ k, wX_next_30 post (nI r) x (nI n) ck a1 a2 a3 a4 a5 a6 a7 a8 a9 k 0 := by
  have hn := hF.1
  refine pk_loop (σ := Unit) (fun k i _ => wX_next_30 post (nI r) x (nI n) ck a1 a2 a3 a4 a5 a6 a7 a8 a9 k (nI i)) (fun i _ => ∀ d, f ≤ d → d < i → (oc_V n a1 a2 0 d).1 = 0) 192 0 () (by omega) (fun d _ z => absurd z (by omega)) ?_ ?_
  · intro k _ h
    exact pk_le 192 192 (fun _ => H 192 ⟨hf, Nat.le_refl _, fun z => absurd z (by omega), h⟩) (fun z => absurd z (by omega))
  · intro k i _ hi h hnext
    refine pk_le 192 i (fun z => absurd z (by omega)) (fun _ => ek_if (hx i hi) (fun z => nm_r (nI_1 i) (hnext () (fun d g1 g2 => h d g1 (by omega)))) (fun z => ⟨pk_in (192 * r + i) 960 (by omega) (oc_ix r i), ?_⟩))
    rw [oc_ix, nI_clamp (show 192 * r + i < 2 ^ 31 by omega), (oc_cellE hs hi).1]
    have hV := oc_V_n (n := n) (a1 := a1) (a2 := a2) (v := 0) (c := i)
    refine pk_le (oc_V n a1 a2 0 i).1 0 (fun y => nm_r (nI_1 i) (hnext () (fun d g1 g2 => ?_))) (fun y => ?_)
    · by_cases e : d = i
      · rw [e]
        omega
      · exact h d g1 (by omega)
    · have t := H i ⟨by omega, by omega, fun _ => y, h⟩
      unfold oc_p at t
      rw [if_pos hi] at t
      exact t
theorem oc_next {post : Int32 → St1 → Prop} {x ck : Int32} {a1 a2 a3 a4 a5 a6 a7 a8 a9 : Nat → Int32} {n f : Nat} (hI : oc_I n a1 a2 a3 a4 a6 a7 a8 a9) (hf : f ≤ 192) (h1 : (-1) ≤ x) (hx : ∀ i, i < 192 → (nI i ≤ x ↔ i < f))
    (H : ∀ (c : Nat) (ck' : Int32) (b3 b4 b5 b6 b7 b8 b9 : Nat → Int32), oc_nx n a1 a2 f c → oc_I n a1 a2 b3 b4 b6 b7 b8 b9 → post (oc_p c) (nI n, ck', a1, a2, b3, b4, b5, b6, b7, b8, b9)) :
    wpX_next post (nI n, ck, a1, a2, a3, a4, a5, a6, a7, a8, a9) 0 x := by
  unfold wpX_next
  refine oc_viewT (j := 0) (by omega) (br_f (by decide) (oc_slotFor (w := 0) hI (by omega) (fun r ck' b3 b4 b5 b6 b7 b8 b9 hr hs hI' => br_t h1 ?_)))
  exact oc_next_30 hI.1 hr hf hs hx (fun c hc => H c ck' b3 b4 b5 b6 b7 b8 b9 hc hI')
end
section
theorem oc_isFact {post : Int32 → Prop} {x ck : Int32} {a1 a2 a3 a4 a5 a6 a7 a8 a9 : Nat → Int32} {n : Nat} (hn : n ≤ 40) (h0 : post 0) (h1 : ∀ j, j < n → x = nI j → post 1) : wpX_isFact post (nI n, ck, a1, a2, a3, a4, a5, a6, a7, a8, a9) x := by
  unfold wpX_isFact
  refine br_c (fun _ => h0) (fun a => br_c (fun _ => h0) (fun b => ?_))
  rcases pk_ix x (n := n) (by omega) with z | z | ⟨j, hj, e⟩
  · exact absurd z a
  · exact absurd z b
  · exact h1 j hj e
theorem oc_wput {post : Int32 → St1 → Prop} {x y ck : Int32} {a1 a2 a3 a4 a5 a6 a7 a8 a9 : Nat → Int32} {n : Nat} (hI : oc_I n a1 a2 a3 a4 a6 a7 a8 a9)
    (H : ∀ (r : Int32) (n' : Nat) (ck' : Int32) (b1 b2 b3 b4 b5 b6 b7 b8 b9 : Nat → Int32), oc_I n' b1 b2 b3 b4 b6 b7 b8 b9 → post r (nI n', ck', b1, b2, b3, b4, b5, b6, b7, b8, b9)) :
    wpX_put post (nI n, ck, a1, a2, a3, a4, a5, a6, a7, a8, a9) x y := by
  have hn := hI.1.1
  unfold wpX_put
  refine oc_isCell (br_t rfl (H _ n ck _ _ _ _ _ _ _ _ _ hI)) (fun p hp e => br_f (by decide) (oc_isMeasure (br_t rfl (H _ n ck _ _ _ _ _ _ _ _ _ hI)) (br_f (by decide) (pk_eq n 40 (fun _ => H _ n ck _ _ _ _ _ _ _ _ _ hI) (fun z => ?_)))))
  rw [e]
  exact oc_add hI (by omega) hp (fun b1 b2 b4 b6 b7 b8 b9 hI' => H _ (n + 1) ck b1 b2 a3 b4 a5 b6 b7 b8 b9 hI')
theorem oc_sow_36 {post : Int32 → St1 → Prop} {ck : Int32} {a1 a2 a3 a4 a5 a6 a7 a8 a9 : Nat → Int32} {n p q m : Nat} (hI : oc_I n a1 a2 a3 a4 a6 a7 a8 a9) (hp : p < 192) (hq : q < 192) (hm : m ≤ 40)
    (H : ∀ (r : Int32) (n' : Nat) (ck' : Int32) (b1 b2 b3 b4 b5 b6 b7 b8 b9 : Nat → Int32), oc_I n' b1 b2 b3 b4 b6 b7 b8 b9 → post r (nI n', ck', b1, b2, b3, b4, b5, b6, b7, b8, b9)) :
    ∃ k, wX_sow_36 post (nI p) (nI q) (nI m) k 0 (nI n) ck a1 a2 a3 a4 a5 a6 a7 a8 a9 := by
  refine pk_loop (σ := Nat × (Nat → Int32) × (Nat → Int32) × (Nat → Int32) × (Nat → Int32) × (Nat → Int32) × (Nat → Int32) × (Nat → Int32)) (fun k i s => wX_sow_36 post (nI p) (nI q) (nI m) k (nI i) (nI s.1) ck s.2.1 s.2.2.1 a3 s.2.2.2.1 a5 s.2.2.2.2.1 s.2.2.2.2.2.1 s.2.2.2.2.2.2.1 s.2.2.2.2.2.2.2)
    (fun i s => oc_I s.1 s.2.1 s.2.2.1 a3 s.2.2.2.1 s.2.2.2.2.1 s.2.2.2.2.2.1 s.2.2.2.2.2.2.1 s.2.2.2.2.2.2.2) m 0 (n, a1, a2, a4, a6, a7, a8, a9) (by omega) hI ?_ ?_
  · rintro k ⟨n', b1, b2, b4, b6, b7, b8, b9⟩ h
    exact pk_le m m (fun _ => H _ n' ck b1 b2 a3 b4 a5 b6 b7 b8 b9 h) (fun z => absurd z (by omega))
  · rintro k i ⟨n', b1, b2, b4, b6, b7, b8, b9⟩ hi h hnext
    dsimp only at h hnext
    have hn := h.1.1
    refine pk_le m i (fun z => absurd z (by omega)) (fun _ => pk_le 40 n' (fun _ => H _ n' ck b1 b2 a3 b4 a5 b6 b7 b8 b9 h) (fun z => ⟨by decide, by decide, ?_⟩))
    have hb : i * q ≤ 40 * 192 := Nat.mul_le_mul (by omega) (by omega)
    have e : (nI p + nI i * nI q) - (nI p + nI i * nI q) / 192 * 192 = nI ((p + i * q) % 192) := by
      rw [pk_mul, nI_add]
      exact pk_rem (by omega) (by decide) (by decide)
    rw [e]
    exact oc_add h (by omega) (Nat.mod_lt _ (by omega)) (fun c1 c2 c4 c6 c7 c8 c9 hI' => nm_r (nI_1 i) (hnext (n' + 1, c1, c2, c4, c6, c7, c8, c9) hI'))
theorem oc_sow {post : Int32 → St1 → Prop} {x y w ck : Int32} {a1 a2 a3 a4 a5 a6 a7 a8 a9 : Nat → Int32} {n : Nat} (hI : oc_I n a1 a2 a3 a4 a6 a7 a8 a9)
    (H : ∀ (r : Int32) (n' : Nat) (ck' : Int32) (b1 b2 b3 b4 b5 b6 b7 b8 b9 : Nat → Int32), oc_I n' b1 b2 b3 b4 b6 b7 b8 b9 → post r (nI n', ck', b1, b2, b3, b4, b5, b6, b7, b8, b9)) :
    wpX_sow post (nI n, ck, a1, a2, a3, a4, a5, a6, a7, a8, a9) x y w := by
  unfold wpX_sow
  refine oc_isCell (br_t rfl (H _ n ck _ _ _ _ _ _ _ _ _ hI)) (fun p hp e => br_f (by decide) (oc_isCell (br_t rfl (H _ n ck _ _ _ _ _ _ _ _ _ hI)) (fun q hq e2 => br_f (by decide) (br_c (fun _ => H _ n ck _ _ _ _ _ _ _ _ _ hI) (fun z => br_c (fun z2 => ?_) (fun _ => H _ n ck _ _ _ _ _ _ _ _ _ hI))))))
  have z0 : ¬ w < 0 := by
    intro g
    rw [Int32.lt_iff_toInt_lt] at g z
    have t0 : (0 : Int32).toInt = 0 := by decide
    have t1 : (1 : Int32).toInt = 1 := by decide
    omega
  obtain ⟨m, hm, e3⟩ := nI_of2 (M := 40) (n := 40) (by decide) z0 z2
  rw [e, e2, e3]
  exact oc_sow_36 hI hp hq hm H
theorem oc_measure {post : Int32 → St1 → Prop} {x y ck : Int32} {a1 a2 a3 a4 a5 a6 a7 a8 a9 : Nat → Int32} {n : Nat} (hI : oc_I n a1 a2 a3 a4 a6 a7 a8 a9)
    (H : ∀ (r : Int32) (n' : Nat) (ck' : Int32) (b1 b2 b3 b4 b5 b6 b7 b8 b9 : Nat → Int32), oc_I n' b1 b2 b3 b4 b6 b7 b8 b9 → post r (nI n', ck', b1, b2, b3, b4, b5, b6, b7, b8, b9)) :
    wpX_measure post (nI n, ck, a1, a2, a3, a4, a5, a6, a7, a8, a9) x y := by
  have hn := hI.1.1
  unfold wpX_measure
  refine oc_isFact hn (br_t rfl (H _ n ck _ _ _ _ _ _ _ _ _ hI)) (fun j hj e => br_f (by decide) (oc_isMeasure (br_t rfl (H _ n ck _ _ _ _ _ _ _ _ _ hI)) (br_f (by decide) ?_)))
  rw [e]
  exact ⟨pk_in j 40 (by omega), nm_e ⟨pk_in j 40 (by omega), nm_e (oc_startAnew hI.1 hI.2.1 (fun b3 b4 b6 b7 b8 b9 hI' => H _ n ck _ _ b3 b4 _ b6 b7 b8 b9 hI'))⟩⟩
theorem oc_F_u {n j k : Nat} {a1 : Nat → Int32} (hF : oc_F n a1) (hj : j < n) : oc_F n (upd a1 k (a1 j)) := by
  refine ⟨hF.1, fun i hi => ?_⟩
  unfold oc_pl
  by_cases e : i = k
  · rw [e, pk_us]
    exact hF.2 j hj
  · rw [pk_un e]
    exact hF.2 i hi
theorem oc_F_p {n : Nat} {a1 : Nat → Int32} (hF : oc_F n a1) : oc_F (n - 1) a1 := ⟨by have h := hF.1; omega, fun j hj => hF.2 j (by omega)⟩
theorem oc_drop_14 {post : Int32 → St1 → Prop} {ck : Int32} {a1 a2 a3 a4 a5 a6 a7 a8 a9 : Nat → Int32} {n j : Nat} (hI : oc_I n a1 a2 a3 a4 a6 a7 a8 a9) (hj : j < n)
    (H : ∀ (r : Int32) (n' : Nat) (ck' : Int32) (b1 b2 b3 b4 b5 b6 b7 b8 b9 : Nat → Int32), oc_I n' b1 b2 b3 b4 b6 b7 b8 b9 → post r (nI n', ck', b1, b2, b3, b4, b5, b6, b7, b8, b9)) :
    ∃ k, wX_drop_14 post (nI n) ck k (nI (j + 1)) a1 a2 a3 a4 a5 a6 a7 a8 a9 := by
  have hn := hI.1.1
  refine pk_loop (σ := (Nat → Int32) × (Nat → Int32)) (fun k i s => wX_drop_14 post (nI n) ck k (nI i) s.1 s.2 a3 a4 a5 a6 a7 a8 a9) (fun i s => 1 ≤ i ∧ oc_F n s.1) n (j + 1) (a1, a2) (by omega) ⟨by omega, hI.1⟩ ?_ ?_
  · rintro k ⟨b1, b2⟩ ⟨_, hF⟩
    exact pk_le n n (fun _ => nm_r (show nI n - 1 = nI (n - 1) from pk_sub (b := 1) (by omega)) (oc_startAnew (oc_F_p hF) hI.2.1 (fun b3 b4 b6 b7 b8 b9 hI' => H _ (n - 1) ck _ _ b3 b4 _ b6 b7 b8 b9 hI'))) (fun z => absurd z (by omega))
  · rintro k i ⟨b1, b2⟩ hi ⟨i1, hF⟩ hnext
    dsimp only at hF hnext
    have e1 : nI i - 1 = nI (i - 1) := pk_sub (b := 1) (by omega)
    refine pk_le n i (fun z => absurd z (by omega)) (fun _ => ⟨pk_in i 40 (by omega), pk_in (i - 1) 40 (by omega) e1, nm_e ⟨pk_in i 40 (by omega), pk_in (i - 1) 40 (by omega) e1, nm_e (nm_r (nI_1 i) ?_)⟩⟩)
    dsimp only
    rw [nI_clamp (show i < 2 ^ 31 by omega)]
    exact hnext (_, _) ⟨by omega, oc_F_u hF hi⟩
theorem oc_drop {post : Int32 → St1 → Prop} {x ck : Int32} {a1 a2 a3 a4 a5 a6 a7 a8 a9 : Nat → Int32} {n : Nat} (hI : oc_I n a1 a2 a3 a4 a6 a7 a8 a9)
    (H : ∀ (r : Int32) (n' : Nat) (ck' : Int32) (b1 b2 b3 b4 b5 b6 b7 b8 b9 : Nat → Int32), oc_I n' b1 b2 b3 b4 b6 b7 b8 b9 → post r (nI n', ck', b1, b2, b3, b4, b5, b6, b7, b8, b9)) :
    wpX_drop post (nI n, ck, a1, a2, a3, a4, a5, a6, a7, a8, a9) x := by
  unfold wpX_drop
  refine oc_isFact hI.1.1 (br_t rfl (H _ n ck _ _ _ _ _ _ _ _ _ hI)) (fun j hj e => br_f (by decide) (nm_r (e' := nI (j + 1)) (by rw [e, nI_1]) (oc_drop_14 hI hj H)))
theorem oc_prepare {post : Int32 → St1 → Prop} {x ck : Int32} {a1 a2 a3 a4 a5 a6 a7 a8 a9 : Nat → Int32} {n : Nat} (hI : oc_I n a1 a2 a3 a4 a6 a7 a8 a9)
    (H : ∀ (r : Int32) (n' : Nat) (ck' : Int32) (b1 b2 b3 b4 b5 b6 b7 b8 b9 : Nat → Int32), oc_I n' b1 b2 b3 b4 b6 b7 b8 b9 → post r (nI n', ck', b1, b2, b3, b4, b5, b6, b7, b8, b9)) :
    wpX_prepare post (nI n, ck, a1, a2, a3, a4, a5, a6, a7, a8, a9) x := by
  unfold wpX_prepare
  unfold wpX_full
  refine oc_isView (br_t rfl (H _ n ck _ _ _ _ _ _ _ _ _ hI)) (fun j hj e => br_f (by decide) ?_)
  rw [e]
  exact oc_slotFor hI hj (fun r ck' b3 b4 b5 b6 b7 b8 b9 hr hs hI' => ⟨pk_in r 5 hr, H _ n ck' _ _ b3 b4 b5 b6 b7 b8 b9 hI'⟩)
theorem oc_act {post : Int32 → St1 → Prop} {x y z w ck : Int32} {a1 a2 a3 a4 a5 a6 a7 a8 a9 : Nat → Int32} {n : Nat} (hI : oc_I n a1 a2 a3 a4 a6 a7 a8 a9)
    (H : ∀ (r : Int32) (n' : Nat) (ck' : Int32) (b1 b2 b3 b4 b5 b6 b7 b8 b9 : Nat → Int32), oc_I n' b1 b2 b3 b4 b6 b7 b8 b9 → post r (nI n', ck', b1, b2, b3, b4, b5, b6, b7, b8, b9)) :
    wpL_act post (nI n, ck, a1, a2, a3, a4, a5, a6, a7, a8, a9) x y z w := by
  unfold wpL_act
  refine ⟨by decide, nm_e ?_⟩
  have hput : ∀ x5 : Int32, wL_act_22 post w x5 (nI n) ck a1 a2 a3 a4 a5 a6 a7 a8 a9 := fun x5 => by
    unfold wL_act_22
    exact oc_wput hI H
  exact br_c (fun _ => hput _) (fun _ => br_c (fun _ => hput _) (fun _ => br_c (fun _ => ⟨by decide, by decide, oc_sow hI H⟩) (fun _ => br_c (fun _ => ⟨by decide, oc_measure hI H⟩) (fun _ => br_c (fun _ => ⟨by decide, oc_drop hI H⟩) (fun _ => ⟨by decide, oc_prepare hI H⟩)))))
end
section
theorem oc_rolls_137 {post : Int32 → St1 → Prop} {ck : Int32} {a1 a2 a3 a4 a5 a6 a7 a8 a9 : Nat → Int32} {n v c : Nat} {d : oc_D} (hI : oc_I n a1 a2 a3 a4 a6 a7 a8 a9) (hv : v < 48) (hc : c < 192) (hd : d = oc_V n a1 a2 v c)
    (H : ∀ (ck' : Int32) (b3 b4 b5 b6 b7 b8 b9 : Nat → Int32), oc_I n a1 a2 b3 b4 b6 b7 b8 b9 → post 1 (nI n, ck', a1, a2, b3, b4, b5, b6, b7, b8, b9)) :
    wL_rolls_137 post (nI v) (nI c) (nI d.1) d.2.1 d.2.2.1 d.2.2.2 (nI n) ck a1 a2 a3 a4 a5 a6 a7 a8 a9 := by
  rw [hd]
  unfold wL_rolls_137
  refine oc_count hI hv hc (fun _ _ _ _ _ _ _ _ h1 => ?_)
  refine oc_sum h1 hv hc (fun _ _ _ _ _ _ _ _ h2 => ?_)
  refine oc_least h2 hv hc (fun _ _ _ _ _ _ _ _ h3 => ?_)
  refine oc_most h3 hv hc (fun _ _ _ _ _ _ _ _ h4 => ?_)
  exact br_t rfl (br_t rfl (br_t rfl (br_t rfl (H _ _ _ _ _ _ _ _ h4))))
theorem oc_ge1 {p : Nat} (hp : p < 192) : (-1 : Int32) ≤ nI p := by
  rw [Int32.le_iff_toInt_le, nI_toInt (by omega)]
  have e : (-1 : Int32).toInt = -1 := by decide
  omega
theorem oc_lt0 {i : Nat} (hi : i < 192) : nI i ≤ (-1 : Int32) ↔ i < 0 := by
  rw [Int32.le_iff_toInt_le, nI_toInt (by omega)]
  have e : (-1 : Int32).toInt = -1 := by decide
  omega
theorem oc_rolls_122 {post : Int32 → St1 → Prop} {J : Int32 → Int32 → Int32 → Int32 → Int32 → Int32 → Int32 → Int32 → (Nat → Int32) → (Nat → Int32) → (Nat → Int32) → (Nat → Int32) → (Nat → Int32) → (Nat → Int32) → (Nat → Int32) → (Nat → Int32) → (Nat → Int32) → Prop} {x1 x2 x3 x4 x5 x6 ck : Int32} {a1 a2 a3 a4 a5 a6 a7 a8 a9 : Nat → Int32} {n p k : Nat} (hI : oc_I n a1 a2 a3 a4 a6 a7 a8 a9) (hp : p < 192)
    (H : ∀ (c : Nat) (ck' : Int32) (b3 b4 b5 b6 b7 b8 b9 : Nat → Int32), oc_nx n a1 a2 (p + 1) c → oc_I n a1 a2 b3 b4 b6 b7 b8 b9 → J x3 x4 x5 x6 (oc_p c) (nI (k + 1)) (nI n) ck' a1 a2 b3 b4 b5 b6 b7 b8 b9) :
    wL_rolls_122 post J x1 x2 x3 x4 x5 x6 (nI p) (nI k) (nI n) ck a1 a2 a3 a4 a5 a6 a7 a8 a9 := by
  unfold wL_rolls_122
  refine oc_next (f := p + 1) hI (by omega) (oc_ge1 hp) (fun i hi => ?_) (fun c ck' b3 b4 b5 b6 b7 b8 b9 hx hI' => nm_r (nI_1 k) (H c ck' b3 b4 b5 b6 b7 b8 b9 hx hI'))
  rw [nI_leI (by omega) (by omega)]
  omega
theorem oc_rolls_111 {post : Int32 → St1 → Prop} {J : Int32 → Int32 → Int32 → Int32 → Int32 → Int32 → Int32 → Int32 → (Nat → Int32) → (Nat → Int32) → (Nat → Int32) → (Nat → Int32) → (Nat → Int32) → (Nat → Int32) → (Nat → Int32) → (Nat → Int32) → (Nat → Int32) → Prop} {x1 x2 x3 x4 x5 x6 x7 x8 x13 sz ck : Int32} {a1 a2 a3 a4 a5 a6 a7 a8 a9 : Nat → Int32}
    (h : wL_rolls_122 post J x1 x2 x3 x4 x5 (oc_mx x6 x13) x7 x8 sz ck a1 a2 a3 a4 a5 a6 a7 a8 a9) :
    wL_rolls_111 post J x1 x2 x3 x4 x5 x6 x7 x8 x13 sz ck a1 a2 a3 a4 a5 a6 a7 a8 a9 := by
  unfold wL_rolls_111
  unfold oc_mx at h
  refine br_c (fun g => ?_) (fun g => ?_)
  · rw [if_pos g] at h
    exact h
  · rw [if_neg g] at h
    exact h
theorem oc_U_k {n : Nat} {a1 a2 : Nat → Int32} {v w k : Nat} : ∀ i, (∀ d, k ≤ d → d < k + i → (oc_V n a1 a2 v d).1 = 0) → oc_U n a1 a2 v w (k + i) = oc_U n a1 a2 v w k := by
  intro i
  induction i with
  | zero => intro _; rfl
  | succ i ih =>
    intro h
    have e := oc_U_z (w := w) (h (k + i) (by omega) (by omega))
    exact e.symm.trans (ih (fun d h1 h2 => h d h1 (by omega)))
/-- what is known at the head of the law's walk over the full cells: ph is the cell that it stands at, or 192 -/
def oc_R (n : Nat) (a1 a2 : Nat → Int32) (v c i ph : Nat) (d : oc_D) : Prop := d = oc_U n a1 a2 0 v ph c ∧ ph ≤ 192 ∧ (ph < 192 → 0 < (oc_V n a1 a2 0 ph).1) ∧ i = oc_fl (oc_V n a1 a2 0) ph
theorem oc_R_0 {n : Nat} {a1 a2 : Nat → Int32} {v c ph : Nat} (h : oc_nx n a1 a2 0 ph) : oc_R n a1 a2 v c 0 ph oc_e := by
  obtain ⟨_, h2, h3, h4⟩ := h
  have e := oc_U_k (n := n) (a1 := a1) (a2 := a2) (v := 0) (w := v) (k := 0) ph (fun d g1 g2 => h4 d g1 (by omega))
  have e2 := oc_fl_z (oc_V n a1 a2 0) 0 ph (fun d g1 g2 => h4 d g1 (by omega))
  rw [Nat.zero_add] at e e2
  exact ⟨by rw [e, oc_U_0], h2, h3, by rw [e2]; rfl⟩
theorem oc_R_s {n : Nat} {a1 a2 : Nat → Int32} {v c i p ph : Nat} {d e : oc_D} (h : oc_R n a1 a2 v c i p d) (hp : p < 192) (hx : oc_nx n a1 a2 (p + 1) ph) (he : e = oc_U n a1 a2 0 v (p + 1) c) : oc_R n a1 a2 v c (i + 1) ph e := by
  obtain ⟨_, _, g3, g4⟩ := h
  obtain ⟨h1, h2, h3, h4⟩ := hx
  have q : p + 1 + (ph - (p + 1)) = ph := by omega
  have e1 := oc_U_k (n := n) (a1 := a1) (a2 := a2) (v := 0) (w := v) (k := p + 1) (ph - (p + 1)) (fun d g1 g2 => h4 d g1 (by omega))
  have e2 := oc_fl_z (oc_V n a1 a2 0) (p + 1) (ph - (p + 1)) (fun d g1 g2 => h4 d g1 (by omega))
  rw [q] at e1 e2
  refine ⟨by rw [he, e1], h2, h3, ?_⟩
  rw [e2, oc_fl_s, if_pos (g3 hp), g4]
theorem oc_R_40 {n : Nat} {a1 a2 : Nat → Int32} {v c ph : Nat} {d : oc_D} (hF : oc_F n a1) (h : oc_R n a1 a2 v c 40 ph d) : ph = 192 := by
  obtain ⟨_, h2, h3, h4⟩ := h
  by_cases z : ph < 192
  · have e1 := oc_fl_s (oc_V n a1 a2 0) ph
    rw [if_pos (h3 z)] at e1
    have e2 := oc_fl_m (oc_V n a1 a2 0) (ph + 1) (191 - ph)
    rw [show ph + 1 + (191 - ph) = 192 by omega] at e2
    have e3 : oc_fl (oc_V n a1 a2 0) 192 ≤ n := oc_fl_n (oc_seen 0) (oc_pl a1) a2 192 n
    have hn := hF.1
    omega
  · omega
theorem oc_R_e {n : Nat} {a1 a2 : Nat → Int32} {v c i : Nat} {d : oc_D} (hF : oc_F n a1) (h : oc_R n a1 a2 v c i 192 d) : d = oc_V n a1 a2 v c := by
  rw [h.1, oc_U_e hF]
theorem oc_rolls_26 {post : Int32 → St1 → Prop} {ck : Int32} {a1 a2 a3 a4 a5 a6 a7 a8 a9 : Nat → Int32} {n v c ph : Nat} (hI : oc_I n a1 a2 a3 a4 a6 a7 a8 a9) (hv : v < 48) (hc : c < 192) (hx : oc_nx n a1 a2 0 ph)
    (H : ∀ (ck' : Int32) (b3 b4 b5 b6 b7 b8 b9 : Nat → Int32), oc_I n a1 a2 b3 b4 b6 b7 b8 b9 → post 1 (nI n, ck', a1, a2, b3, b4, b5, b6, b7, b8, b9)) :
    ∃ k, wL_rolls_26 post (nI v) (nI c) k 0 0 10000 (-10000) (oc_p ph) 0 (nI n) ck a1 a2 a3 a4 a5 a6 a7 a8 a9 := by
  have hF := hI.1
  have hn := hF.1
  refine pk_loop (σ := oc_D × Nat × Int32 × (Nat → Int32) × (Nat → Int32) × (Nat → Int32) × (Nat → Int32) × (Nat → Int32) × (Nat → Int32) × (Nat → Int32)) (fun k i s => wL_rolls_26 post (nI v) (nI c) k (nI s.1.1) s.1.2.1 s.1.2.2.1 s.1.2.2.2 (oc_p s.2.1) (nI i) (nI n) s.2.2.1 a1 a2 s.2.2.2.1 s.2.2.2.2.1 s.2.2.2.2.2.1 s.2.2.2.2.2.2.1 s.2.2.2.2.2.2.2.1 s.2.2.2.2.2.2.2.2.1 s.2.2.2.2.2.2.2.2.2)
    (fun i s => oc_I n a1 a2 s.2.2.2.1 s.2.2.2.2.1 s.2.2.2.2.2.2.1 s.2.2.2.2.2.2.2.1 s.2.2.2.2.2.2.2.2.1 s.2.2.2.2.2.2.2.2.2 ∧ oc_R n a1 a2 v c i s.2.1 s.1) 40 0 (oc_e, ph, ck, a3, a4, a5, a6, a7, a8, a9) (by omega) ⟨hI, oc_R_0 hx⟩ ?_ ?_
  · rintro k ⟨d, q, ck1, b3, b4, b5, b6, b7, b8, b9⟩ ⟨h, hR⟩
    dsimp only at h hR
    have hq := oc_R_40 hF hR
    rw [hq] at hR
    exact pk_le 40 40 (fun _ => oc_rolls_137 h hv hc (oc_R_e hF hR) H) (fun z => absurd z (by omega))
  · rintro k i ⟨d, q, ck1, b3, b4, b5, b6, b7, b8, b9⟩ hi ⟨h, hR⟩ hnext
    dsimp only at h hR hnext
    refine pk_le 40 i (fun z => absurd z (by omega)) (fun _ => ?_)
    dsimp only
    by_cases hq : q < 192
    · rw [show oc_p q = nI q from if_pos hq]
      have hs0 : ∀ p, p < 192 → oc_seen 0 p = q → p = q := fun p hp e => by
        rw [oc_seen_0 hp] at e
        exact e
      have eS : ∀ c0, c0 = oc_seen v q → oc_put (oc_U n a1 a2 0 v q) c0 (oc_V n a1 a2 0 q) = oc_U n a1 a2 0 v (q + 1) := fun c0 e0 => oc_U_s hF (fun p hp e => by rw [hs0 p hp e, e0])
      refine br_f (nI_pos (by omega)) (oc_lseen hv hq ?_)
      have hsl := oc_seen_lt (v := v) hq
      refine pk_eq (oc_seen v q) c (fun e => ?_) (fun e => ?_)
      · refine oc_count (w := 0) h (by omega) hq (fun _ _ _ _ _ _ _ _ h1 => ?_)
        refine oc_sum (w := 0) h1 (by omega) hq (fun _ _ _ _ _ _ _ _ h2 => ?_)
        refine oc_least (w := 0) h2 (by omega) hq (fun _ _ _ _ _ _ _ _ h3 => ?_)
        refine oc_most (w := 0) h3 (by omega) hq (fun ck4 c3 c4 c5 c6 c7 c8 c9 h4 => ?_)
        refine nm_r (nI_add _ _) (nm_e ?_)
        have key : wL_rolls_111 post (wL_rolls_26 post (nI v) (nI c) k) (nI v) (nI c) (nI (d.1 + (oc_V n a1 a2 0 q).1)) (d.2.1 + (oc_V n a1 a2 0 q).2.1) (oc_mn d.2.2.1 (oc_V n a1 a2 0 q).2.2.1) d.2.2.2 (nI q) (nI i) (oc_V n a1 a2 0 q).2.2.2 (nI n) ck4 a1 a2 c3 c4 c5 c6 c7 c8 c9 := by
          refine oc_rolls_111 (oc_rolls_122 h4 hq (fun ph' ck5 d3 d4 d5 d6 d7 d8 d9 hx' h5 => ?_))
          refine hnext (oc_op d (oc_V n a1 a2 0 q), ph', ck5, d3, d4, d5, d6, d7, d8, d9) ⟨h5, oc_R_s hR hq hx' ?_⟩
          rw [← eS c e.symm, oc_put_s, hR.1]
        unfold oc_mn at key
        refine br_c (fun g => ?_) (fun g => ?_)
        · rw [if_pos g] at key
          exact key
        · rw [if_neg g] at key
          exact key
      · refine oc_rolls_122 h hq (fun ph' ck5 d3 d4 d5 d6 d7 d8 d9 hx' h5 => ?_)
        refine hnext (d, ph', ck5, d3, d4, d5, d6, d7, d8, d9) ⟨h5, oc_R_s hR hq hx' ?_⟩
        rw [← eS _ rfl, oc_put_n (fun z => e z.symm), hR.1]
    · have hq' : q = 192 := by have t := hR.2.1; omega
      rw [hq'] at hR ⊢
      exact br_t (by decide) (oc_rolls_137 h hv hc (oc_R_e hF hR) H)
theorem oc_rolls {post : Int32 → St1 → Prop} {ck : Int32} {a1 a2 a3 a4 a5 a6 a7 a8 a9 : Nat → Int32} {n v c : Nat} (hI : oc_I n a1 a2 a3 a4 a6 a7 a8 a9) (hv : v < 48) (hc : c < 192)
    (H : ∀ (ck' : Int32) (b3 b4 b5 b6 b7 b8 b9 : Nat → Int32), oc_I n a1 a2 b3 b4 b6 b7 b8 b9 → post 1 (nI n, ck', a1, a2, b3, b4, b5, b6, b7, b8, b9)) :
    wpL_rolls post (nI n, ck, a1, a2, a3, a4, a5, a6, a7, a8, a9) (nI v) (nI c) := by
  unfold wpL_rolls
  exact oc_next (f := 0) hI (by omega) (by decide) (fun i hi => oc_lt0 hi) (fun ph ck' b3 b4 b5 b6 b7 b8 b9 hx hI' => oc_rolls_26 hI' hv hc hx H)
end
section
/-- how many of the first k values are x -/
def oc_vw (F : Nat → Int32) (x : Int32) : Nat → Int32
  | 0 => 0
  | k + 1 => oc_vw F x k + (if F k = x then 1 else 0)
/-- how many cells of a view are full, as an int -/
def oc_fu (n : Nat) (a1 a2 : Nat → Int32) (w : Nat) : Int32 := nI (oc_fl (oc_V n a1 a2 w) 192)
theorem oc_vw_t {F : Nat → Int32} {x : Int32} {k : Nat} (h : F k = x) : oc_vw F x k + 1 = oc_vw F x (k + 1) := by
  show _ = oc_vw F x k + (if F k = x then 1 else 0)
  rw [if_pos h]
theorem oc_vw_f {F : Nat → Int32} {x : Int32} {k : Nat} (h : ¬ F k = x) : oc_vw F x k + 0 = oc_vw F x (k + 1) := by
  show _ = oc_vw F x k + (if F k = x then 1 else 0)
  rw [if_neg h]
theorem oc_viewsWith {post : Int32 → St1 → Prop} {x ck : Int32} {a1 a2 a3 a4 a5 a6 a7 a8 a9 : Nat → Int32} {n : Nat} (hI : oc_I n a1 a2 a3 a4 a6 a7 a8 a9) (h0 : ¬ x < 0) (h1 : x ≤ 192)
    (H : ∀ (ck' : Int32) (b3 b4 b5 b6 b7 b8 b9 : Nat → Int32), oc_I n a1 a2 b3 b4 b6 b7 b8 b9 → post (oc_vw (oc_fu n a1 a2) x 48) (nI n, ck', a1, a2, b3, b4, b5, b6, b7, b8, b9)) :
    wpX_viewsWith post (nI n, ck, a1, a2, a3, a4, a5, a6, a7, a8, a9) x := by
  unfold wpX_viewsWith
  refine br_f h0 (br_t h1 ?_)
  refine pk_loop (σ := Int32 × (Nat → Int32) × (Nat → Int32) × (Nat → Int32) × (Nat → Int32) × (Nat → Int32) × (Nat → Int32) × (Nat → Int32)) (fun k i s => wX_viewsWith_17 post x k (oc_vw (oc_fu n a1 a2) x i) (nI i) (nI n) s.1 a1 a2 s.2.1 s.2.2.1 s.2.2.2.1 s.2.2.2.2.1 s.2.2.2.2.2.1 s.2.2.2.2.2.2.1 s.2.2.2.2.2.2.2)
    (fun i s => oc_I n a1 a2 s.2.1 s.2.2.1 s.2.2.2.2.1 s.2.2.2.2.2.1 s.2.2.2.2.2.2.1 s.2.2.2.2.2.2.2) 48 0 (ck, a3, a4, a5, a6, a7, a8, a9) (by omega) hI ?_ ?_
  · rintro k ⟨ck1, b3, b4, b5, b6, b7, b8, b9⟩ h
    exact pk_le 48 48 (fun _ => H ck1 b3 b4 b5 b6 b7 b8 b9 h) (fun z => absurd z (by omega))
  · rintro k i ⟨ck1, b3, b4, b5, b6, b7, b8, b9⟩ hi h hnext
    dsimp only at h hnext
    refine pk_le 48 i (fun z => absurd z (by omega)) (fun _ => oc_slotFor h hi (fun r ck2 c3 c4 c5 c6 c7 c8 c9 hr hs h2 => ⟨pk_in r 5 hr, ?_⟩))
    rw [nI_clamp (show r < 2 ^ 31 by omega), hs.1]
    have t := hnext (ck2, c3, c4, c5, c6, c7, c8, c9) h2
    exact br_c (fun g => nm_r (oc_vw_t (F := oc_fu n a1 a2) g) (nm_r (nI_1 i) t)) (fun g => nm_r (oc_vw_f (F := oc_fu n a1 a2) g) (nm_r (nI_1 i) t))
theorem oc_law_101 {post : Int32 → Prop} {L : Nat} {xs : Nat → Int32} {J : Int32 → Int32 → Int32 → (Nat → Int32) → (Nat → Int32) → (Nat → Int32) → (Nat → Int32) → (Nat → Int32) → (Nat → Int32) → (Nat → Int32) → (Nat → Int32) → (Nat → Int32) → Prop} {x2 x ck : Int32} {kc ks : Nat} {a1 a2 a3 a4 a5 a6 a7 a8 a9 : Nat → Int32} {n : Nat} (hI : oc_I n a1 a2 a3 a4 a6 a7 a8 a9) (h0 : ¬ x < 0) (h1 : x ≤ 192)
    (H : ∀ (ck' : Int32) (b3 b4 b5 b6 b7 b8 b9 : Nat → Int32), oc_I n a1 a2 b3 b4 b6 b7 b8 b9 → J (x2 + 4) (nI n) ck' a1 a2 b3 b4 b5 b6 b7 b8 b9) :
    ∃ k, wL_law_101 post L xs J x2 x kc ks k 0 0 (nI n) ck a1 a2 a3 a4 a5 a6 a7 a8 a9 := by
  refine pk_loop (σ := Int32 × (Nat → Int32) × (Nat → Int32) × (Nat → Int32) × (Nat → Int32) × (Nat → Int32) × (Nat → Int32) × (Nat → Int32)) (fun k i s => wL_law_101 post L xs J x2 x kc ks k (oc_vw (oc_fu n a1 a2) x i) (nI i) (nI n) s.1 a1 a2 s.2.1 s.2.2.1 s.2.2.2.1 s.2.2.2.2.1 s.2.2.2.2.2.1 s.2.2.2.2.2.2.1 s.2.2.2.2.2.2.2)
    (fun i s => oc_I n a1 a2 s.2.1 s.2.2.1 s.2.2.2.2.1 s.2.2.2.2.2.1 s.2.2.2.2.2.2.1 s.2.2.2.2.2.2.2) 48 0 (ck, a3, a4, a5, a6, a7, a8, a9) (by omega) hI ?_ ?_
  · rintro k ⟨ck1, b3, b4, b5, b6, b7, b8, b9⟩ h
    exact pk_le 48 48 (fun _ => oc_viewsWith h h0 h1 (fun ck2 c3 c4 c5 c6 c7 c8 c9 h2 => br_t rfl (nm_e (H ck2 c3 c4 c5 c6 c7 c8 c9 h2)))) (fun z => absurd z (by omega))
  · rintro k i ⟨ck1, b3, b4, b5, b6, b7, b8, b9⟩ hi h hnext
    dsimp only at h hnext
    refine pk_le 48 i (fun z => absurd z (by omega)) (fun _ => oc_full h hi (fun ck2 c3 c4 c5 c6 c7 c8 c9 h2 => ?_))
    have t := hnext (ck2, c3, c4, c5, c6, c7, c8, c9) h2
    refine br_c (fun g => nm_r (oc_vw_t (F := oc_fu n a1 a2) g) (nm_r (nI_1 i) t)) (fun g => nm_r (nI_1 i) ?_)
    have e := oc_vw_f (F := oc_fu n a1 a2) g
    rw [Int32.add_zero] at e
    rw [e]
    exact t
theorem oc_md (x : Int32) (d : Nat) (h0 : 0 < d) (hd : d < 2 ^ 31) : ∃ j, j < d ∧ (x &&& 255) - (x &&& 255) / nI d * nI d = nI j := by
  obtain ⟨j, hj, e⟩ := pk_andE x (m := 255) 8 (by decide)
  refine ⟨j % d, Nat.mod_lt _ h0, ?_⟩
  rw [e]
  exact pk_rem (by omega) h0 hd
theorem oc_law_10 {L : Nat} {xs : Nat → Int32} {ck : Int32} {kc ks : Nat} {a1 a2 a3 a4 a5 a6 a7 a8 a9 : Nat → Int32} {n : Nat} (hL : L ≤ 260) (hI : oc_I n a1 a2 a3 a4 a6 a7 a8 a9) :
    ∃ k, wL_law_10 (fun r => r = 1) L xs kc ks k 0 (nI n) ck a1 a2 a3 a4 a5 a6 a7 a8 a9 := by
  refine pk_loop (σ := Nat × Int32 × (Nat → Int32) × (Nat → Int32) × (Nat → Int32) × (Nat → Int32) × (Nat → Int32) × (Nat → Int32) × (Nat → Int32) × (Nat → Int32) × (Nat → Int32)) (fun k i s => wL_law_10 (fun r => r = 1) L xs kc ks k (nI (4 * i)) (nI s.1) s.2.1 s.2.2.1 s.2.2.2.1 s.2.2.2.2.1 s.2.2.2.2.2.1 s.2.2.2.2.2.2.1 s.2.2.2.2.2.2.2.1 s.2.2.2.2.2.2.2.2.1 s.2.2.2.2.2.2.2.2.2.1 s.2.2.2.2.2.2.2.2.2.2)
    (fun i s => oc_I s.1 s.2.2.1 s.2.2.2.1 s.2.2.2.2.1 s.2.2.2.2.2.1 s.2.2.2.2.2.2.2.1 s.2.2.2.2.2.2.2.2.1 s.2.2.2.2.2.2.2.2.2.1 s.2.2.2.2.2.2.2.2.2.2) 66 0 (n, ck, a1, a2, a3, a4, a5, a6, a7, a8, a9) (by omega) hI ?_ ?_
  · rintro k ⟨n1, ck1, b1, b2, b3, b4, b5, b6, b7, b8, b9⟩ h
    exact pk_le L (4 * 66 + 3) (fun _ => rfl) (fun z => absurd z (by omega)) rfl (nI_add (4 * 66) 3)
  · rintro k i ⟨n1, ck1, b1, b2, b3, b4, b5, b6, b7, b8, b9⟩ hi h hnext
    dsimp only at h hnext
    refine pk_le L (4 * i + 3) (fun _ => rfl) (fun z => ⟨pk_in (4 * i) L (by omega), pk_in (4 * i + 1) L (by omega) (nI_add (4 * i) 1), pk_in (4 * i + 2) L (by omega) (nI_add (4 * i) 2), pk_in (4 * i + 3) L (by omega) (nI_add (4 * i) 3), ?_⟩) rfl (nI_add (4 * i) 3)
    obtain ⟨v, hv, ev⟩ := oc_md (xs (nI (4 * i) + 2).toNatClampNeg) 48 (by omega) (by omega)
    obtain ⟨p, hp, ep⟩ := oc_md (xs (nI (4 * i) + 3).toNatClampNeg) 192 (by omega) (by omega)
    refine oc_act h (fun r n2 ck2 c1 c2 c3 c4 c5 c6 c7 c8 c9 h2 => ⟨pk_in (4 * i + 2) L (by omega) (nI_add (4 * i) 2), by decide, nm_r ev ⟨pk_in (4 * i + 3) L (by omega) (nI_add (4 * i) 3), by decide, ?_⟩⟩)
    have ep' : (xs (nI (4 * i) + 3).toNatClampNeg &&& 255) - (xs (nI (4 * i) + 3).toNatClampNeg &&& 255) / 192 * 192 = nI p := ep
    rw [ep']
    refine oc_lseen hv hp (oc_rolls h2 hv (oc_seen_lt hp) (fun ck3 d3 d4 d5 d6 d7 d8 d9 h3 => br_f (by decide) (oc_full h3 hv (fun ck4 e3 e4 e5 e6 e7 e8 e9 h4 => ?_))))
    have hfl := oc_fl_le (oc_V n2 c1 c2 v) 192
    refine oc_law_101 h4 (nI_pos (by omega)) (nI_le (b := 192) hfl (by decide)) (fun ck5 f3 f4 f5 f6 f7 f8 f9 h5 => ?_)
    rw [show nI (4 * i) + 4 = nI (4 * (i + 1)) from nI_add (4 * i) 4]
    exact hnext (n2, ck5, c1, c2, f3, f4, f5, f6, f7, f8, f9) h5
theorem i_vc (xs : Nat → Int32) (L : Nat) (hL : L ≤ 260) : wpL_law (fun r => r = 1) L xs := by
  unfold wpL_law
  exact ⟨9, 3935, by decide, by decide, oc_init (fun b1 b2 b3 b4 b5 b6 b7 b8 b9 h => oc_law_10 hL h)⟩
end

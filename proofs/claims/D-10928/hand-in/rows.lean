section
/-! numbers -/
theorem zd_add {x y : Int32} (h1 : -2147483648 ≤ x.toInt + y.toInt) (h2 : x.toInt + y.toInt < 2147483648) : (x + y).toInt = x.toInt + y.toInt := by
  rw [Int32.toInt_add]
  exact Int.bmod_eq_of_le (by omega) (by omega)
theorem zd_sub {x y : Int32} (h1 : -2147483648 ≤ x.toInt - y.toInt) (h2 : x.toInt - y.toInt < 2147483648) : (x - y).toInt = x.toInt - y.toInt := by
  rw [Int32.toInt_sub]
  exact Int.bmod_eq_of_le (by omega) (by omega)
theorem zd_neg {x : Int32} (h1 : -2147483648 < x.toInt) : (-x).toInt = -x.toInt := by
  have h2 := Int32.toInt_lt x
  rw [Int32.toInt_neg]
  exact Int.bmod_eq_of_le (by omega) (by omega)
theorem zd_le {x y : Int32} : x ≤ y ↔ x.toInt ≤ y.toInt := Int32.le_iff_toInt_le
theorem zd_lt {x y : Int32} : x < y ↔ x.toInt < y.toInt := Int32.lt_iff_toInt_lt
theorem zd_c0 : (0 : Int32).toInt = 0 := by decide
theorem zd_c1 : (1 : Int32).toInt = 1 := by decide
theorem zd_c3 : (3 : Int32).toInt = 3 := by decide
theorem zd_c4 : (4 : Int32).toInt = 4 := by decide
theorem zd_cn : (9 : Int32).toInt = 9 := by decide
theorem zd_cm : (-9 : Int32).toInt = -9 := by decide
theorem zd_ck : (999 : Int32).toInt = 999 := by decide
theorem zd_cK : (1000 : Int32).toInt = 1000 := by decide
/-! the pictures -/
/-- what a place may become in phase k -/
def zd_ov (z k p : Nat) (a : Nat → Int32) : Int32 := a (16 * z + 4 * (p / 4) + k) + a (16 * z + 4 * k + p % 4)
/-- one place of a phase -/
def zd_s (z k p : Nat) (a : Nat → Int32) : Nat → Int32 := if a (16 * z + p) ≤ zd_ov z k p a then a else upd a (16 * z + p) (zd_ov z k p a)
/-- the first places of a phase -/
def zd_ph (z k : Nat) : Nat → (Nat → Int32) → (Nat → Int32)
  | 0, a => a
  | p + 1, a => zd_s z k p (zd_ph z k p a)
/-- the first phases -/
def zd_T (z : Nat) : Nat → (Nat → Int32) → (Nat → Int32)
  | 0, a => a
  | k + 1, a => zd_ph z k 16 (zd_T z k a)
/-- the marks after the first places of the diagonal -/
def zd_H (z : Nat) (a : Nat → Int32) : Nat → (Nat → Int32) → (Nat → Int32)
  | 0, h => h
  | i + 1, h => if 0 ≤ a (16 * z + 5 * i) then zd_H z a i h else upd (zd_H z a i h) z 1
/-- lower -/
def zd_lo (z p : Nat) (c : Int32) (a : Nat → Int32) : Nat → Int32 := if a (16 * z + p) ≤ c then a else upd a (16 * z + p) c
/-- one number's place of reset -/
def zd_r1 (z i : Nat) (c : Int32) (j : Nat) (a : Nat → Int32) : Nat → Int32 := upd (upd a (16 * z + 4 * i + j) (c + a (16 * z + j))) (16 * z + 4 * j + i) (upd a (16 * z + 4 * i + j) (c + a (16 * z + j)) (16 * z + 4 * j) - c)
def zd_r (z i : Nat) (c : Int32) : Nat → (Nat → Int32) → (Nat → Int32)
  | 0, a => a
  | j + 1, a => if j = i then zd_r z i c j a else zd_r1 z i c j (zd_r z i c j a)
/-- the lowering of meetWith -/
def zd_mw (z y : Nat) : Nat → (Nat → Int32) → (Nat → Int32)
  | 0, a => a
  | p + 1, a => zd_lo z p (zd_mw z y p a (16 * y + p)) (zd_mw z y p a)
/-- the fresh zone -/
def zd_box (p : Nat) : Int32 := if p / 4 = p % 4 ∨ p / 4 = 0 then 0 else 9
def zd_fr (z n : Nat) (a : Nat → Int32) : Nat → Int32 := fun q => if 16 * z ≤ q ∧ q < 16 * z + n then zd_box (q - 16 * z) else a q
def zd_G (n : Nat) : Nat → Int32 := fun q => if q < 16 * n then zd_box (q % 16) else 0
/-! making -/
theorem zd_fr_0 (z : Nat) (a : Nat → Int32) : a = zd_fr z 0 a := by
  funext q
  exact (if_neg (by omega)).symm
theorem zd_fr_s (z n : Nat) (a : Nat → Int32) : upd (zd_fr z n a) (16 * z + n) (zd_box n) = zd_fr z (n + 1) a := by
  funext q
  by_cases e : q = 16 * z + n
  · have h : zd_fr z (n + 1) a q = zd_box (q - 16 * z) := if_pos (by omega)
    rw [h, e, pk_us, Nat.add_sub_cancel_left]
  · rw [pk_un e]
    by_cases g : 16 * z ≤ q ∧ q < 16 * z + n
    · have h : zd_fr z (n + 1) a q = zd_box (q - 16 * z) := if_pos (by omega)
      rw [h]
      exact if_pos g
    · have h : zd_fr z (n + 1) a q = a q := if_neg (by omega)
      rw [h]
      exact if_neg g
theorem zd_G_0 : (fun _ => 0) = zd_G 0 := by
  funext q
  exact (if_neg (by omega)).symm
theorem zd_G_s (n : Nat) : zd_fr n 16 (zd_G n) = zd_G (n + 1) := by
  funext q
  by_cases g : 16 * n ≤ q ∧ q < 16 * n + 16
  · have h : zd_G (n + 1) q = zd_box (q % 16) := if_pos (by omega)
    have h2 : zd_fr n 16 (zd_G n) q = zd_box (q - 16 * n) := if_pos g
    rw [h, h2]
    congr 1
    omega
  · have h2 : zd_fr n 16 (zd_G n) q = zd_G n q := if_neg g
    rw [h2]
    by_cases l : q < 16 * n
    · have h : zd_G (n + 1) q = zd_box (q % 16) := if_pos (by omega)
      rw [h]
      exact if_pos l
    · have h : zd_G (n + 1) q = 0 := if_neg (by omega)
      rw [h]
      exact if_neg l
theorem zd_u0 (z : Nat) : upd (fun _ => 0) z 0 = fun _ => 0 := by
  funext q
  by_cases e : q = z
  · rw [e, pk_us]
  · rw [pk_un e]
theorem zd_Gv {z p : Nat} (hz : z < 4) (hp : p < 16) : zd_G 4 (16 * z + p) = zd_box p := by
  have h : zd_G 4 (16 * z + p) = zd_box ((16 * z + p) % 16) := if_pos (by omega)
  rw [h]
  congr 1
  omega
/-! what every zone keeps: no place below -m or above 9, row 0 not above 0 -/
def zd_B (m : Int) (a : Nat → Int32) : Prop := ∀ q, q < 96 → -m ≤ (a q).toInt ∧ (a q).toInt ≤ 9 ∧ (q % 16 < 4 → (a q).toInt ≤ 0)
theorem zd_B_G : zd_B 0 (zd_G 4) := by
  have h : ∀ q, q < 96 → -0 ≤ (zd_G 4 q).toInt ∧ (zd_G 4 q).toInt ≤ 9 ∧ (q % 16 < 4 → (zd_G 4 q).toInt ≤ 0) := by decide +kernel
  exact h
theorem zd_B_up {m : Int} {a : Nat → Int32} {k : Nat} {x : Int32} (h : zd_B m a) (h1 : -m ≤ x.toInt) (h2 : x.toInt ≤ 9) (h3 : k % 16 < 4 → x.toInt ≤ 0) : zd_B m (upd a k x) := by
  intro q hq
  by_cases e : q = k
  · rw [e, pk_us]
    exact ⟨h1, h2, h3⟩
  · rw [pk_un e]
    exact h q hq
theorem zd_B_mono {m m' : Int} {a : Nat → Int32} (h : zd_B m a) (hm : m ≤ m') : zd_B m' a := by
  intro q hq
  have := h q hq
  exact ⟨by omega, this.2⟩
theorem zd_B_lo {m : Int} {a : Nat → Int32} {z p : Nat} {c : Int32} (h : zd_B m a) (hz : z < 6) (hp : p < 16) (h1 : -m ≤ c.toInt) : zd_B m (zd_lo z p c a) := by
  unfold zd_lo
  split
  · exact h
  · rename_i g
    rw [zd_le] at g
    have := h (16 * z + p) (by omega)
    exact zd_B_up h h1 (by omega) (fun t => by have := this.2.2 t; omega)
theorem zd_B_mw {m : Int} {a : Nat → Int32} {z y : Nat} (h : zd_B m a) (hz : z < 6) (hy : y < 6) : ∀ n, n ≤ 16 → zd_B m (zd_mw z y n a)
  | 0, _ => h
  | p + 1, hp => by
    have ih := zd_B_mw h hz hy p (by omega)
    exact zd_B_lo ih hz (by omega) (ih (16 * y + p) (by omega)).1
theorem zd_B_r1 {m : Int} {a : Nat → Int32} {z i j : Nat} {c : Int32} (h : zd_B m a) (hz : z < 6) (hi : 1 ≤ i) (hi4 : i < 4) (hj : j < 4) (h1 : 0 ≤ c.toInt) (h2 : c.toInt ≤ 9) (hm : 0 ≤ m) (hM : m ≤ 1000000) : zd_B (m + 9) (zd_r1 z i c j a) := by
  have g := h (16 * z + j) (by omega)
  have g3 := g.2.2 (by omega)
  have e : (c + a (16 * z + j)).toInt = c.toInt + (a (16 * z + j)).toInt := zd_add (by omega) (by omega)
  have s : zd_B m (upd a (16 * z + 4 * i + j) (c + a (16 * z + j))) := zd_B_up h (by omega) (by omega) (fun t => by omega)
  unfold zd_r1
  generalize upd a (16 * z + 4 * i + j) (c + a (16 * z + j)) = b at s
  have k := s (16 * z + 4 * j) (by omega)
  have e2 : (b (16 * z + 4 * j) - c).toInt = (b (16 * z + 4 * j)).toInt - c.toInt := zd_sub (by omega) (by omega)
  refine zd_B_up (zd_B_mono s (by omega)) (by omega) (by omega) (fun t => ?_)
  have := k.2.2 (by omega)
  omega
theorem zd_B_r {m : Int} {a : Nat → Int32} {z i : Nat} {c : Int32} (h : zd_B m a) (hz : z < 6) (hi : 1 ≤ i) (hi4 : i < 4) (h1 : 0 ≤ c.toInt) (h2 : c.toInt ≤ 9) (hm : 0 ≤ m) (hM : m ≤ 900000) : ∀ n : Nat, n ≤ 4 → zd_B (m + 9 * (n : Int)) (zd_r z i c n a)
  | 0, _ => zd_B_mono h (by omega)
  | j + 1, hj => by
    have ih := zd_B_r h hz hi hi4 h1 h2 hm hM j (by omega)
    show zd_B _ (if j = i then zd_r z i c j a else zd_r1 z i c j (zd_r z i c j a))
    split
    · exact zd_B_mono ih (by omega)
    · exact zd_B_mono (zd_B_r1 ih hz hi hi4 (by omega) h1 h2 (by omega) (by omega)) (by omega)
/-! tighten: what one place does -/
theorem zd_s_le (z k p : Nat) (a : Nat → Int32) (q : Nat) : (zd_s z k p a q).toInt ≤ (a q).toInt := by
  unfold zd_s
  split
  · exact Int.le_refl _
  · rename_i h
    rw [zd_le] at h
    by_cases e : q = 16 * z + p
    · rw [e, pk_us]
      omega
    · rw [pk_un e]
      exact Int.le_refl _
theorem zd_s_fr {z k p q : Nat} {a : Nat → Int32} (hp : p < 16) (h : q < 16 * z ∨ 16 * z + 16 ≤ q) : zd_s z k p a q = a q := by
  unfold zd_s
  split
  · rfl
  · exact pk_un (by omega)
theorem zd_s_ov (z k p : Nat) (a : Nat → Int32) : (zd_s z k p a (16 * z + p)).toInt ≤ (zd_ov z k p a).toInt := by
  unfold zd_s
  split
  · rename_i h
    exact zd_le.mp h
  · rw [pk_us]
    exact Int.le_refl _
/-- a fact that every place keeps is kept -/
theorem zd_ph_ind (P : (Nat → Int32) → Prop) {z k : Nat} (hs : ∀ p a, p < 16 → P a → P (zd_s z k p a)) {a : Nat → Int32} (h : P a) : ∀ n, n ≤ 16 → P (zd_ph z k n a)
  | 0, _ => h
  | p + 1, hp => hs p _ (by omega) (zd_ph_ind P hs h p (by omega))
theorem zd_T_ind (P : (Nat → Int32) → Prop) {z : Nat} (hs : ∀ k p a, k < 4 → p < 16 → P a → P (zd_s z k p a)) {a : Nat → Int32} (h : P a) : ∀ n, n ≤ 4 → P (zd_T z n a)
  | 0, _ => h
  | k + 1, hk => zd_ph_ind P (fun p b hp hb => hs k p b (by omega) hp hb) (zd_T_ind P hs h k (by omega)) 16 (by omega)
theorem zd_T_le (z : Nat) (a : Nat → Int32) (q : Nat) : (zd_T z 4 a q).toInt ≤ (a q).toInt :=
  zd_T_ind (fun b => (b q).toInt ≤ (a q).toInt) (fun k p b _ _ hb => Int.le_trans (zd_s_le z k p b q) hb) (Int.le_refl _) 4 (by omega)
theorem zd_T_fr {z q : Nat} {a : Nat → Int32} (h : q < 16 * z ∨ 16 * z + 16 ≤ q) : zd_T z 4 a q = a q :=
  zd_T_ind (fun b => b q = a q) (fun k p b _ hp hb => (zd_s_fr hp h).trans hb) rfl 4 (by omega)
/-! lower bounds: a phase multiplies by six at most -/
def zd_Q (z k n : Nat) (m : Int) (a : Nat → Int32) : Prop := ∀ q, q < 16 → (a (16 * z + q)).toInt ≤ 9 ∧ -(6 * m) ≤ (a (16 * z + q)).toInt ∧ (q / 4 = k ∨ q % 4 = k → -(3 * m) ≤ (a (16 * z + q)).toInt) ∧ (q / 4 = k ∧ q % 4 = k → -(2 * m) ≤ (a (16 * z + q)).toInt) ∧ (n ≤ q → -m ≤ (a (16 * z + q)).toInt)
theorem zd_ovT {z k n : Nat} {m : Int} {a : Nat → Int32} (hk : k < 4) (hn : n < 16) (h : zd_Q z k n m a) (hm : 0 ≤ m) (hM : m ≤ 200000000) : (zd_ov z k n a).toInt = (a (16 * z + (4 * (n / 4) + k))).toInt + (a (16 * z + (4 * k + n % 4))).toInt ∧ -(6 * m) ≤ (zd_ov z k n a).toInt ∧ (n / 4 = k ∨ n % 4 = k → -(3 * m) ≤ (zd_ov z k n a).toInt) ∧ (n / 4 = k ∧ n % 4 = k → -(2 * m) ≤ (zd_ov z k n a).toInt) := by
  have hA := h (4 * (n / 4) + k) (by omega)
  have hB := h (4 * k + n % 4) (by omega)
  have A3 := hA.2.2.1 (by omega)
  have B3 := hB.2.2.1 (by omega)
  have e : (zd_ov z k n a).toInt = (a (16 * z + (4 * (n / 4) + k))).toInt + (a (16 * z + (4 * k + n % 4))).toInt := by
    unfold zd_ov
    rw [show 16 * z + 4 * (n / 4) + k = 16 * z + (4 * (n / 4) + k) from by omega, show 16 * z + 4 * k + n % 4 = 16 * z + (4 * k + n % 4) from by omega]
    exact zd_add (by omega) (by omega)
  refine ⟨e, by omega, fun t => ?_, fun t => ?_⟩
  · by_cases g : n / 4 = k
    · have A2 := hA.2.2.2.1 (by omega)
      have B1 := hB.2.2.2.2 (by omega)
      omega
    · have A1 := hA.2.2.2.2 (by omega)
      have B2 := hB.2.2.2.1 (by omega)
      omega
  · have A1 := hA.2.2.2.2 (by omega)
    have B1 := hB.2.2.2.2 (by omega)
    omega
theorem zd_Q_s {z k n : Nat} {m : Int} {a : Nat → Int32} (hk : k < 4) (hn : n < 16) (h : zd_Q z k n m a) (hm : 0 ≤ m) (hM : m ≤ 200000000) : zd_Q z k (n + 1) m (zd_s z k n a) := by
  have ho := zd_ovT hk hn h hm hM
  unfold zd_s
  split
  · intro q hq
    have := h q hq
    exact ⟨this.1, this.2.1, this.2.2.1, this.2.2.2.1, fun t => this.2.2.2.2 (by omega)⟩
  · rename_i g
    rw [zd_le] at g
    intro q hq
    by_cases e : q = n
    · have := h n hn
      rw [e, pk_us]
      exact ⟨by omega, ho.2.1, ho.2.2.1, ho.2.2.2, fun t => by omega⟩
    · rw [pk_un (by omega)]
      have := h q hq
      exact ⟨this.1, this.2.1, this.2.2.1, this.2.2.2.1, fun t => this.2.2.2.2 (by omega)⟩
theorem zd_Q_0 {z k : Nat} {m : Int} {a : Nat → Int32} (h : ∀ q, q < 16 → -m ≤ (a (16 * z + q)).toInt ∧ (a (16 * z + q)).toInt ≤ 9) (hm : 0 ≤ m) : zd_Q z k 0 m a := by
  intro q hq
  have := h q hq
  exact ⟨this.2, by omega, fun _ => by omega, fun _ => by omega, fun _ => this.1⟩
theorem zd_Q_ph {z k : Nat} {m : Int} {a : Nat → Int32} (hk : k < 4) (h : zd_Q z k 0 m a) (hm : 0 ≤ m) (hM : m ≤ 200000000) : ∀ n, n ≤ 16 → zd_Q z k n m (zd_ph z k n a)
  | 0, _ => h
  | p + 1, hp => zd_Q_s hk (by omega) (zd_Q_ph hk h hm hM p (by omega)) hm hM
theorem zd_low_ph {z k : Nat} {m : Int} {a : Nat → Int32} (hk : k < 4) (h : ∀ q, q < 16 → -m ≤ (a (16 * z + q)).toInt ∧ (a (16 * z + q)).toInt ≤ 9) (hm : 0 ≤ m) (hM : m ≤ 200000000) : ∀ q, q < 16 → -(6 * m) ≤ (zd_ph z k 16 a (16 * z + q)).toInt ∧ (zd_ph z k 16 a (16 * z + q)).toInt ≤ 9 := fun q hq =>
  have t := zd_Q_ph hk (zd_Q_0 h hm) hm hM 16 (by omega) q hq
  ⟨t.2.1, t.1⟩
theorem zd_low_T {z : Nat} {m : Int} {a : Nat → Int32} (h : ∀ q, q < 16 → -m ≤ (a (16 * z + q)).toInt ∧ (a (16 * z + q)).toInt ≤ 9) (hm : 0 ≤ m) (hM : m ≤ 900000) : ∀ q, q < 16 → -(1296 * m) ≤ (zd_T z 4 a (16 * z + q)).toInt ∧ (zd_T z 4 a (16 * z + q)).toInt ≤ 9 := by
  have h1 := zd_low_ph (k := 0) (by omega) h hm (by omega)
  have h2 := zd_low_ph (k := 1) (by omega) h1 (by omega) (by omega)
  have h3 := zd_low_ph (k := 2) (by omega) h2 (by omega) (by omega)
  have h4 := zd_low_ph (k := 3) (by omega) h3 (by omega) (by omega)
  intro q hq
  have t := h4 q hq
  have e : zd_ph z 3 16 (zd_ph z 2 16 (zd_ph z 1 16 (zd_ph z 0 16 a))) = zd_T z 4 a := rfl
  rw [e] at t
  exact ⟨by omega, t.2⟩
theorem zd_B_T {m : Int} {a : Nat → Int32} {z : Nat} (h : zd_B m a) (hz : z < 6) (hm : 0 ≤ m) (hM : m ≤ 900000) : zd_B (1296 * m) (zd_T z 4 a) := by
  intro q hq
  have g := h q hq
  have l := zd_T_le z a q
  refine ⟨?_, by omega, fun t => by have := g.2.2 t; omega⟩
  by_cases e : q < 16 * z ∨ 16 * z + 16 ≤ q
  · rw [zd_T_fr e]
    omega
  · have t := zd_low_T (z := z) (fun r hr => ⟨(h (16 * z + r) (by omega)).1, (h (16 * z + r) (by omega)).2.1⟩) hm hM (q - 16 * z) (by omega)
    rw [show 16 * z + (q - 16 * z) = q from by omega] at t
    exact t.1
/-! a point of the zone stays in it -/
def zd_P (z : Nat) (x : Nat → Int) (a : Nat → Int32) : Prop := ∀ q, q < 16 → x (q / 4) - x (q % 4) ≤ (a (16 * z + q)).toInt ∧ (a (16 * z + q)).toInt ≤ 9
theorem zd_P_T {z : Nat} {x : Nat → Int} {a : Nat → Int32} (hx : ∀ i, i < 4 → 0 ≤ x i ∧ x i ≤ 9) (h : zd_P z x a) : zd_P z x (zd_T z 4 a) := by
  refine zd_T_ind (zd_P z x) (fun k p b hk hp hb => ?_) h 4 (by omega)
  have hA := hb (4 * (p / 4) + k) (by omega)
  have hB := hb (4 * k + p % 4) (by omega)
  rw [show (4 * (p / 4) + k) / 4 = p / 4 from by omega, show (4 * (p / 4) + k) % 4 = k from by omega] at hA
  rw [show (4 * k + p % 4) / 4 = k from by omega, show (4 * k + p % 4) % 4 = p % 4 from by omega] at hB
  have x1 := hx (p / 4) (by omega)
  have x2 := hx k hk
  have x3 := hx (p % 4) (by omega)
  have e : (zd_ov z k p b).toInt = (b (16 * z + (4 * (p / 4) + k))).toInt + (b (16 * z + (4 * k + p % 4))).toInt := by
    unfold zd_ov
    rw [show 16 * z + 4 * (p / 4) + k = 16 * z + (4 * (p / 4) + k) from by omega, show 16 * z + 4 * k + p % 4 = 16 * z + (4 * k + p % 4) from by omega]
    exact zd_add (by omega) (by omega)
  unfold zd_s
  split
  · exact hb
  · rename_i g
    rw [zd_le] at g
    intro q hq
    by_cases e2 : q = p
    · have := hb p hp
      rw [e2, pk_us]
      exact ⟨by omega, by omega⟩
    · rw [pk_un (by omega)]
      exact hb q hq
/-! a zone without a point: the diagonal falls below 0 in phase 0 -/
theorem zd_ph_le (z k : Nat) (a : Nat → Int32) (q n : Nat) : ∀ d, (zd_ph z k (n + d) a q).toInt ≤ (zd_ph z k n a q).toInt
  | 0 => Int.le_refl _
  | d + 1 => Int.le_trans (zd_s_le z k (n + d) _ q) (zd_ph_le z k a q n d)
theorem zd_ph_l0 (z k : Nat) (a : Nat → Int32) (q : Nat) : (zd_ph z k 16 a q).toInt ≤ (a q).toInt := zd_ph_ind (fun b => (b q).toInt ≤ (a q).toInt) (fun p b _ hb => Int.le_trans (zd_s_le z k p b q) hb) (Int.le_refl _) 16 (by omega)
theorem zd_neg0 {z n : Nat} {m : Int} {a : Nat → Int32} (hn : n < 4) (h : ∀ q, q < 16 → -m ≤ (a (16 * z + q)).toInt ∧ (a (16 * z + q)).toInt ≤ 9) (hm : 0 ≤ m) (hM : m ≤ 200000000) (hs : (a (16 * z + 4 * n)).toInt + (a (16 * z + n)).toInt < 0) : (zd_ph z 0 16 a (16 * z + 5 * n)).toInt < 0 := by
  have hQ := zd_Q_ph (z := z) (k := 0) (by omega) (zd_Q_0 h hm) hm hM (5 * n) (by omega)
  have ho := (zd_ovT (k := 0) (n := 5 * n) (by omega) (by omega) hQ hm hM).1
  rw [show 4 * (5 * n / 4) + 0 = 4 * n from by omega, show 4 * 0 + 5 * n % 4 = n from by omega] at ho
  have l1 : (zd_ph z 0 (5 * n) a (16 * z + 4 * n)).toInt ≤ (a (16 * z + 4 * n)).toInt := by
    have := zd_ph_le z 0 a (16 * z + 4 * n) 0 (5 * n)
    rw [Nat.zero_add] at this
    exact this
  have l2 : (zd_ph z 0 (5 * n) a (16 * z + n)).toInt ≤ (a (16 * z + n)).toInt := by
    have := zd_ph_le z 0 a (16 * z + n) 0 (5 * n)
    rw [Nat.zero_add] at this
    exact this
  have l3 : (zd_ph z 0 (5 * n + 1) a (16 * z + 5 * n)).toInt ≤ (zd_ov z 0 (5 * n) (zd_ph z 0 (5 * n) a)).toInt := zd_s_ov z 0 (5 * n) _
  have l4 := zd_ph_le z 0 a (16 * z + 5 * n) (5 * n + 1) (15 - 5 * n)
  rw [show 5 * n + 1 + (15 - 5 * n) = 16 from by omega] at l4
  omega
theorem zd_negT {z n : Nat} {m : Int} {a : Nat → Int32} (hn : n < 4) (h : ∀ q, q < 16 → -m ≤ (a (16 * z + q)).toInt ∧ (a (16 * z + q)).toInt ≤ 9) (hm : 0 ≤ m) (hM : m ≤ 200000000) (hs : (a (16 * z + 4 * n)).toInt + (a (16 * z + n)).toInt < 0) : (zd_T z 4 a (16 * z + 5 * n)).toInt < 0 := by
  have h0 := zd_neg0 hn h hm hM hs
  have s1 := zd_ph_l0 z 1 (zd_ph z 0 16 a) (16 * z + 5 * n)
  have s2 := zd_ph_l0 z 2 (zd_ph z 1 16 (zd_ph z 0 16 a)) (16 * z + 5 * n)
  have s3 := zd_ph_l0 z 3 (zd_ph z 2 16 (zd_ph z 1 16 (zd_ph z 0 16 a))) (16 * z + 5 * n)
  have e : zd_ph z 3 16 (zd_ph z 2 16 (zd_ph z 1 16 (zd_ph z 0 16 a))) = zd_T z 4 a := rfl
  rw [e] at s3
  exact Int.lt_of_le_of_lt s3 (Int.lt_of_le_of_lt s2 (Int.lt_of_le_of_lt s1 h0))
/-! the marks -/
theorem zd_H_ne {z j : Nat} {a h : Nat → Int32} (e : j ≠ z) : ∀ n, zd_H z a n h j = h j
  | 0 => rfl
  | i + 1 => by
    show (if 0 ≤ a (16 * z + 5 * i) then zd_H z a i h else upd (zd_H z a i h) z 1) j = h j
    split
    · exact zd_H_ne e i
    · rw [pk_un e]
      exact zd_H_ne e i
theorem zd_H_0 {z : Nat} {a h : Nat → Int32} : ∀ n, (∀ i, i < n → 0 ≤ (a (16 * z + 5 * i)).toInt) → zd_H z a n h z = h z
  | 0, _ => rfl
  | i + 1, hp => by
    show (if 0 ≤ a (16 * z + 5 * i) then zd_H z a i h else upd (zd_H z a i h) z 1) z = h z
    rw [if_pos (by rw [zd_le, zd_c0]; exact hp i (by omega))]
    exact zd_H_0 i (fun j hj => hp j (by omega))
theorem zd_H_1 {z i : Nat} {a h : Nat → Int32} (hi : (a (16 * z + 5 * i)).toInt < 0) : ∀ n, i < n → zd_H z a n h z = 1
  | 0, t => absurd t (by omega)
  | k + 1, t => by
    show (if 0 ≤ a (16 * z + 5 * k) then zd_H z a k h else upd (zd_H z a k h) z 1) z = 1
    by_cases e : i = k
    · rw [← e, if_neg (fun g => by rw [zd_le, zd_c0] at g; omega), pk_us]
    · split
      · exact zd_H_1 hi k (by omega)
      · rw [pk_us]
end
section
/-! constrain on a fresh zone: plain facts -/
theorem zd_lo_v (z p : Nat) (c : Int32) (a : Nat → Int32) : (zd_lo z p c a (16 * z + p)).toInt ≤ c.toInt ∧ (zd_lo z p c a (16 * z + p)).toInt ≤ (a (16 * z + p)).toInt ∧ ((zd_lo z p c a (16 * z + p)).toInt = c.toInt ∨ (zd_lo z p c a (16 * z + p)).toInt = (a (16 * z + p)).toInt) := by
  unfold zd_lo
  split
  · rename_i g
    rw [zd_le] at g
    exact ⟨g, Int.le_refl _, Or.inr rfl⟩
  · rename_i g
    rw [zd_le] at g
    rw [pk_us]
    exact ⟨Int.le_refl _, by omega, Or.inl rfl⟩
theorem zd_lo_ne {z p q : Nat} {c : Int32} {a : Nat → Int32} (h : q ≠ 16 * z + p) : zd_lo z p c a q = a q := by
  unfold zd_lo
  split
  · rfl
  · exact pk_un h
theorem zd_box0 {p : Nat} (h : p / 4 = p % 4 ∨ p / 4 = 0) : (zd_box p).toInt = 0 := by
  unfold zd_box
  rw [if_pos h]
  exact zd_c0
theorem zd_box9 {p : Nat} (h : ¬ (p / 4 = p % 4 ∨ p / 4 = 0)) : (zd_box p).toInt = 9 := by
  unfold zd_box
  rw [if_neg h]
  exact zd_cn
/-- a point of the fresh zone under the new bound, on the bound -/
theorem zd_point {p : Nat} {c : Int} (hp : p < 16) (hpp : ¬ p / 4 = p % 4) (h1 : -9 ≤ c) (h2 : c ≤ 9) (hn : ¬ (p % 4 = 0 ∧ c < 0)) : ∃ x : Nat → Int, x 0 = 0 ∧ (∀ i, i < 4 → 0 ≤ x i ∧ x i ≤ 9) ∧ x (p / 4) - x (p % 4) ≤ c ∧ x (p / 4) - x (p % 4) ≤ (zd_box p).toInt ∧ (x (p / 4) - x (p % 4) = c ∨ x (p / 4) - x (p % 4) = (zd_box p).toInt) := by
  have hC : ∃ C D : Int, 0 ≤ C ∧ C ≤ 9 ∧ 0 ≤ D ∧ D ≤ 9 ∧ C - D = c ∧ (0 ≤ c → D = 0) ∧ (c < 0 → C = 0) := by
    by_cases g : 0 ≤ c
    · exact ⟨c, 0, by omega, by omega, by omega, by omega, by omega, fun _ => rfl, fun t => by omega⟩
    · exact ⟨0, -c, by omega, by omega, by omega, by omega, by omega, fun t => by omega, fun _ => rfl⟩
  obtain ⟨C, D, c1, c2, d1, d2, e, eD, eC⟩ := hC
  refine ⟨fun i => if i = 0 then 0 else if i = p / 4 then C else if i = p % 4 then D else 0, rfl, fun i _ => ?_, ?_⟩
  · show 0 ≤ (if i = 0 then 0 else if i = p / 4 then C else if i = p % 4 then D else 0) ∧ (if i = 0 then 0 else if i = p / 4 then C else if i = p % 4 then D else 0) ≤ 9
    split
    · omega
    · split
      · omega
      · split <;> omega
  · show (if p / 4 = 0 then 0 else if p / 4 = p / 4 then C else if p / 4 = p % 4 then D else 0) - (if p % 4 = 0 then 0 else if p % 4 = p / 4 then C else if p % 4 = p % 4 then D else 0) ≤ c ∧ (if p / 4 = 0 then 0 else if p / 4 = p / 4 then C else if p / 4 = p % 4 then D else 0) - (if p % 4 = 0 then 0 else if p % 4 = p / 4 then C else if p % 4 = p % 4 then D else 0) ≤ (zd_box p).toInt ∧ ((if p / 4 = 0 then 0 else if p / 4 = p / 4 then C else if p / 4 = p % 4 then D else 0) - (if p % 4 = 0 then 0 else if p % 4 = p / 4 then C else if p % 4 = p % 4 then D else 0) = c ∨ (if p / 4 = 0 then 0 else if p / 4 = p / 4 then C else if p / 4 = p % 4 then D else 0) - (if p % 4 = 0 then 0 else if p % 4 = p / 4 then C else if p % 4 = p % 4 then D else 0) = (zd_box p).toInt)
    have ne : ¬ p % 4 = p / 4 := fun t => hpp t.symm
    rw [if_pos (rfl : p / 4 = p / 4), if_neg ne, if_pos (rfl : p % 4 = p % 4)]
    by_cases ha : p / 4 = 0
    · rw [zd_box0 (Or.inr ha), if_pos ha, if_neg (by omega)]
      omega
    · rw [zd_box9 (fun t => t.elim hpp ha), if_neg ha]
      by_cases hb : p % 4 = 0
      · rw [if_pos hb]
        omega
      · rw [if_neg hb]
        omega
theorem zd_ful {z p : Nat} {c : Int32} (hz : z < 4) (hp : p < 16) (hpp : ¬ p / 4 = p % 4) (h1 : -9 ≤ c.toInt) (h2 : c.toInt ≤ 9) (hn : ¬ (p % 4 = 0 ∧ c.toInt < 0)) : (∀ i, i < 4 → 0 ≤ (zd_T z 4 (zd_lo z p c (zd_G 4)) (16 * z + 5 * i)).toInt) ∧ ((c < zd_box p → zd_T z 4 (zd_lo z p c (zd_G 4)) (16 * z + p) = c) ∧ (¬ c < zd_box p → zd_T z 4 (zd_lo z p c (zd_G 4)) (16 * z + p) = zd_box p)) := by
  obtain ⟨x, x0, hx, k1, k2, k3⟩ := zd_point hp hpp h1 h2 hn
  have hv := zd_lo_v z p c (zd_G 4)
  rw [zd_Gv hz hp] at hv
  have b9 : (zd_box p).toInt ≤ 9 := by
    by_cases g : p / 4 = p % 4 ∨ p / 4 = 0
    · rw [zd_box0 g]
      omega
    · rw [zd_box9 g]
      omega
  have hP : zd_P z x (zd_lo z p c (zd_G 4)) := by
    intro q hq
    by_cases e : q = p
    · rw [e]
      omega
    · rw [zd_lo_ne (by omega), zd_Gv hz hq]
      have y1 := hx (q / 4) (by omega)
      have y2 := hx (q % 4) (by omega)
      by_cases g : q / 4 = q % 4 ∨ q / 4 = 0
      · rw [zd_box0 g]
        refine ⟨?_, by omega⟩
        rcases g with g | g
        · rw [g]
          omega
        · rw [g, x0]
          omega
      · rw [zd_box9 g]
        omega
  have hT := zd_P_T hx hP
  refine ⟨fun i hi => ?_, ?_⟩
  · have t := (hT (5 * i) (by omega)).1
    rw [show 5 * i / 4 = i from by omega, show 5 * i % 4 = i from by omega] at t
    omega
  · have t := (hT p hp).1
    have l := zd_T_le z (zd_lo z p c (zd_G 4)) (16 * z + p)
    refine ⟨fun g => Int32.toInt_inj.mp ?_, fun g => Int32.toInt_inj.mp ?_⟩
    · rw [zd_lt] at g
      omega
    · rw [zd_lt] at g
      omega
theorem zd_B_con {z p : Nat} {c : Int32} (hz : z < 4) (hp : p < 16) (h1 : -9 ≤ c.toInt) : zd_B 9 (zd_lo z p c (zd_G 4)) :=
  zd_B_lo (zd_B_mono zd_B_G (by omega)) (by omega) hp h1
theorem zd_emp {z p : Nat} {c : Int32} (hz : z < 4) (hp : p < 16) (hpp : ¬ p / 4 = p % 4) (h1 : -9 ≤ c.toInt) (he : p % 4 = 0 ∧ c.toInt < 0) (h : Nat → Int32) : zd_H z (zd_T z 4 (zd_lo z p c (zd_G 4))) 4 h z = 1 := by
  have hB := zd_B_con (c := c) hz hp h1
  refine zd_H_1 (i := p / 4) (zd_negT (m := 9) (by omega) (fun q hq => ⟨(hB (16 * z + q) (by omega)).1, (hB (16 * z + q) (by omega)).2.1⟩) (by omega) (by omega) ?_) 4 (by omega)
  have hv := (zd_lo_v z p c (zd_G 4)).1
  rw [show 16 * z + 4 * (p / 4) = 16 * z + p from by omega, zd_lo_ne (q := 16 * z + p / 4) (by omega), zd_Gv hz (by omega), zd_box0 (Or.inr (by omega))]
  omega
/-- the state after constrain, on whatever the law handed in: the marks and the places that bound reads -/
theorem zd_fit {z p : Nat} {c : Int32} (hz : z < 4) (hp : p < 16) (hpp : ¬ p / 4 = p % 4) (h1 : -9 ≤ c.toInt) (h2 : c.toInt ≤ 9) :
    zd_B 11664 (zd_T z 4 (zd_lo z p c (zd_G 4))) ∧ (∀ y, y < 4 → y ≠ z → zd_T z 4 (zd_lo z p c (zd_G 4)) (16 * y + p) = zd_box p)
    ∧ (∀ j, j ≠ z → zd_H z (zd_T z 4 (zd_lo z p c (zd_G 4))) 4 (fun _ => 0) j = 0)
    ∧ ((p % 4 = 0 ∧ c.toInt < 0) → zd_H z (zd_T z 4 (zd_lo z p c (zd_G 4))) 4 (fun _ => 0) z = 1)
    ∧ (¬ (p % 4 = 0 ∧ c.toInt < 0) → zd_H z (zd_T z 4 (zd_lo z p c (zd_G 4))) 4 (fun _ => 0) z = 0 ∧ (c < zd_box p → zd_T z 4 (zd_lo z p c (zd_G 4)) (16 * z + p) = c) ∧ (¬ c < zd_box p → zd_T z 4 (zd_lo z p c (zd_G 4)) (16 * z + p) = zd_box p)) := by
  refine ⟨zd_B_mono (zd_B_T (zd_B_con hz hp h1) (by omega) (by omega) (by omega)) (by omega), fun y hy e => ?_, fun j e => zd_H_ne e 4, fun he => zd_emp hz hp hpp h1 he _, fun hn => ?_⟩
  · rw [zd_T_fr (by omega), zd_lo_ne (by omega), zd_Gv hy hp]
  · have t := zd_ful hz hp hpp h1 h2 hn
    exact ⟨zd_H_0 4 t.1, t.2⟩
end
section
/-! places -/
theorem zd_i2 (z p : Nat) : 16 * nI z + nI p = nI (16 * z + p) := by
  show nI 16 * nI z + nI p = _
  rw [pk_mul, nI_add]
theorem zd_i3 (z i j : Nat) : 16 * nI z + 4 * nI i + nI j = nI (16 * z + 4 * i + j) := by
  show nI 16 * nI z + nI 4 * nI i + nI j = _
  rw [pk_mul, pk_mul, nI_add, nI_add]
theorem zd_i4 (z i : Nat) : 16 * nI z + 4 * nI i = nI (16 * z + 4 * i) := by
  show nI 16 * nI z + nI 4 * nI i = _
  rw [pk_mul, pk_mul, nI_add]
theorem zd_i5 (z i : Nat) : 16 * nI z + 5 * nI i = nI (16 * z + 5 * i) := by
  show nI 16 * nI z + nI 5 * nI i = _
  rw [pk_mul, pk_mul, nI_add]
theorem zd_q {p : Nat} (hp : p < 16) : nI p / 4 = nI (p / 4) := pk_div (d := 4) (by omega) (by omega) (by omega)
theorem zd_m {p : Nat} (hp : p < 16) : nI p - nI p / 4 * 4 = nI (p % 4) := pk_rem (d := 4) (by omega) (by omega) (by omega)
theorem zd_iA (z k : Nat) {p : Nat} (hp : p < 16) : 16 * nI z + 4 * (nI p / 4) + nI k = nI (16 * z + 4 * (p / 4) + k) := by
  rw [zd_q hp, zd_i3]
theorem zd_iB (z k : Nat) {p : Nat} (hp : p < 16) : 16 * nI z + 4 * nI k + (nI p - nI p / 4 * 4) = nI (16 * z + 4 * k + p % 4) := by
  rw [zd_m hp, zd_i3]
theorem zd_ia (z k : Nat) : 16 * nI z + nI k = nI (16 * z + k) := zd_i2 z k
/-! what the arguments are -/
def zd_in (x : Int32) : Prop := ¬ x < 0 ∧ ¬ 3 < x
def zd_kn (x : Int32) : Prop := ¬ x < 0 ∧ ¬ 15 < x ∧ ¬ x / 4 = x - x / 4 * 4
def zd_n9 (x : Int32) : Prop := ¬ x < -9 ∧ ¬ 9 < x
theorem zd_bad {post : Int32 → Prop} {u : St2} {x : Int32} (h1 : ¬ zd_in x → post 1) (h0 : ∀ z, z < 4 → x = nI z → post 0) : wpX_bad post u x := by
  obtain ⟨a1, a2⟩ := u
  refine br_c (fun h => h1 (fun t => t.1 h)) (fun h => br_c (fun g => ?_) (fun g => h1 (fun t => ?_)))
  · obtain ⟨j, hj, rfl⟩ := nI_of h
    have g' : nI j < nI 4 := g
    rw [nI_ltI hj (by omega)] at g'
    exact h0 j g' rfl
  · have t2 := t.2
    rw [zd_lt, zd_c3] at t2
    rw [zd_lt, zd_c4] at g
    omega
theorem zd_badPair {post : Int32 → Prop} {u : St2} {x : Int32} (h1 : ¬ zd_kn x → post 1) (h0 : ∀ p, p < 16 → ¬ p / 4 = p % 4 → x = nI p → post 0) : wpX_badPair post u x := by
  obtain ⟨a1, a2⟩ := u
  refine br_c (fun h => h1 (fun t => t.1 h)) (fun h => br_c (fun g => h1 (fun t => t.2.1 g)) (fun g => ⟨by decide, by decide, br_c (fun e => h1 (fun t => t.2.2 e)) (fun e => ?_)⟩))
  obtain ⟨j, hj, rfl⟩ := nI_of h
  have g' : ¬ nI 15 < nI j := g
  rw [nI_ltI (by omega) hj] at g'
  have hj6 : j < 16 := by omega
  refine h0 j hj6 (fun t => e ?_) rfl
  rw [zd_m hj6, zd_q hj6, t]
theorem zd_ans {post : Int32 → Prop} {z : Nat} {a h : Nat → Int32} (hz : z < 6) (h1 : h z = 0 → post 1) (h0 : ¬ h z = 0 → post 0) : wpX_answer post (a, h) (nI z) := by
  refine ⟨pk_in z 6 hz, ?_⟩
  rw [nI_clamp (by omega)]
  exact ⟨h1, h0⟩
/-! making -/
theorem zd_bb {post : Int32 → Prop} {u : St2} {i j : Nat} (hi : i < 4) (hj : j < 4) (h : post (zd_box (4 * i + j))) : wpX_boxBound post u (nI i) (nI j) := by
  obtain ⟨a1, a2⟩ := u
  have e1 : (4 * i + j) / 4 = i := by omega
  have e2 : (4 * i + j) % 4 = j := by omega
  unfold zd_box at h
  rw [e1, e2] at h
  refine pk_eq i j (fun e => ?_) (fun e => pk_eq i 0 (fun g => ?_) (fun g => ?_))
  · rw [if_pos (Or.inl e)] at h
    exact h
  · rw [if_pos (Or.inr g)] at h
    exact h
  · rw [if_neg (fun t => t.elim e g)] at h
    exact h
theorem zd_sf16 {post : St2 → Prop} {J9 : Int32 → (Nat → Int32) → (Nat → Int32) → Prop} {z i : Nat} {a h : Nat → Int32} (hz : z < 4) (hi : i < 4) (H : J9 (nI (i + 1)) (zd_fr z (4 * i + 4) a) h) : ∃ n, wX_setFresh_16 post J9 (nI z) (nI i) n 0 (zd_fr z (4 * i) a) h :=
  pk_loop (fun n j s => wX_setFresh_16 post J9 (nI z) (nI i) n (nI j) s h) (fun j s => s = zd_fr z (4 * i + j) a) 4 0 _ (by omega) rfl
    (fun n s hs => pk_le 4 4 (fun _ => nm_r (nI_1 i) (by rw [hs]; exact H)) (fun t => absurd t (by omega)))
    (fun n j s hj hs hw => pk_le 4 j (fun t => absurd t (by omega)) (fun _ => zd_bb hi hj ⟨pk_in (16 * z + 4 * i + j) 96 (by omega) (zd_i3 z i j), nm_r (e' := zd_fr z (4 * i + (j + 1)) a) (by rw [zd_i3, nI_clamp (by omega), hs, Nat.add_assoc (16 * z), zd_fr_s]; rfl) (nm_r (nI_1 j) (hw _ rfl))⟩))
theorem zd_sf {post : St2 → Prop} {z : Nat} {a h : Nat → Int32} (hz : z < 4) (H : post (zd_fr z 16 a, upd h z 0)) : wpX_setFresh post (a, h) (nI z) := by
  refine ⟨pk_in z 6 (by omega), nm_r (e' := upd h z 0) (by rw [nI_clamp (by omega)]) ?_⟩
  exact pk_loop (fun n i s => wX_setFresh_9 post (nI z) n (nI i) s (upd h z 0)) (fun i s => s = zd_fr z (4 * i) a) 4 0 _ (by omega) (zd_fr_0 z a)
    (fun n s hs => pk_le 4 4 (fun _ => by rw [hs]; exact H) (fun t => absurd t (by omega)))
    (fun n i s hi hs hw => pk_le 4 i (fun t => absurd t (by omega)) (fun _ => by rw [hs]; exact zd_sf16 hz hi (hw _ rfl)))
theorem zd_init {post : St2 → Prop} {mc ms : Nat} (hc : 2 ≤ mc) (hs : 102 ≤ ms) (H : post (zd_G 4, fun _ => 0)) : wpX_init post mc ms () := by
  refine ⟨by omega, by omega, hc, hs, ?_⟩
  have k := pk_loop (fun n i s => wX_init_22 post mc ms 2 102 n (nI i) s (fun _ => 0)) (fun i s => s = zd_G i) 4 0 (fun _ => 0) (by omega) zd_G_0
    (fun n s hs => pk_le 4 4 (fun _ => by rw [hs]; exact H) (fun t => absurd t (by omega)))
    (fun n i s hi hs hw => pk_le 4 i (fun t => absurd t (by omega)) (fun _ => by
      refine zd_sf hi (nm_r (nI_1 i) ?_)
      rw [hs, zd_G_s, zd_u0]
      exact hw _ rfl))
  exact k
/-! tighten, lower -/
theorem zd_t9 {post : St2 → Prop} {J2 : Int32 → (Nat → Int32) → (Nat → Int32) → Prop} {z k : Nat} {a h : Nat → Int32} (hz : z < 6) (hk : k < 4) (H : J2 (nI (k + 1)) (zd_ph z k 16 a) h) : ∃ n, wX_tighten_9 post J2 (nI z) (nI k) n 0 a h := by
  refine pk_loop (fun n p s => wX_tighten_9 post J2 (nI z) (nI k) n (nI p) s h) (fun p s => s = zd_ph z k p a) 16 0 a (by omega) rfl
    (fun n s hs => pk_le 16 16 (fun _ => nm_r (nI_1 k) (by rw [hs]; exact H)) (fun t => absurd t (by omega))) ?_
  intro n p s hp hs hw
  have w1 := hw (zd_s z k p s) (by rw [hs]; rfl)
  refine pk_le 16 p (fun t => absurd t (by omega)) (fun _ => ⟨by decide, pk_in (16 * z + 4 * (p / 4) + k) 96 (by omega) (zd_iA z k hp), by decide, pk_in (16 * z + 4 * k + p % 4) 96 (by omega) (zd_iB z k hp), nm_r (e' := zd_ov z k p s) (by rw [zd_iA z k hp, zd_iB z k hp, nI_clamp (by omega), nI_clamp (by omega)]; rfl) ⟨pk_in (16 * z + p) 96 (by omega) (zd_i2 z p), br_c (fun g => nm_r (nI_1 p) ?_) (fun g => ⟨pk_in (16 * z + p) 96 (by omega) (zd_i2 z p), nm_r (e' := upd s (16 * z + p) (zd_ov z k p s)) (by rw [zd_i2, nI_clamp (by omega)]) (nm_r (nI_1 p) ?_)⟩)⟩⟩)
  · rw [zd_i2, nI_clamp (by omega)] at g
    unfold zd_s at w1
    rw [if_pos g] at w1
    exact w1
  · rw [zd_i2, nI_clamp (by omega)] at g
    unfold zd_s at w1
    rw [if_neg g] at w1
    exact w1
theorem zd_t95 {post : St2 → Prop} {z : Nat} {a h : Nat → Int32} (hz : z < 6) (H : post (a, zd_H z a 4 h)) : ∃ n, wX_tighten_95 post (nI z) n 0 a h := by
  refine pk_loop (fun n i s => wX_tighten_95 post (nI z) n (nI i) a s) (fun i s => s = zd_H z a i h) 4 0 h (by omega) rfl
    (fun n s hs => pk_le 4 4 (fun _ => by rw [hs]; exact H) (fun t => absurd t (by omega))) ?_
  intro n i s hi hs hw
  refine pk_le 4 i (fun t => absurd t (by omega)) (fun _ => ⟨pk_in (16 * z + 5 * i) 96 (by omega) (zd_i5 z i), br_c (fun g => nm_r (nI_1 i) (hw s ?_)) (fun g => ⟨pk_in z 6 hz, nm_r (e' := upd s z 1) (by rw [nI_clamp (by omega)]) (nm_r (nI_1 i) (hw _ ?_))⟩)⟩)
  · rw [zd_i5, nI_clamp (by omega)] at g
    show s = if 0 ≤ a (16 * z + 5 * i) then zd_H z a i h else upd (zd_H z a i h) z 1
    rw [if_pos g]
    exact hs
  · rw [zd_i5, nI_clamp (by omega)] at g
    show upd s z 1 = if 0 ≤ a (16 * z + 5 * i) then zd_H z a i h else upd (zd_H z a i h) z 1
    rw [if_neg g, hs]
theorem zd_tt {post : St2 → Prop} {z : Nat} {a h : Nat → Int32} (hz : z < 6) (H : post (zd_T z 4 a, zd_H z (zd_T z 4 a) 4 h)) : wpX_tighten post (a, h) (nI z) :=
  pk_loop (fun n k s => wX_tighten_2 post (nI z) n (nI k) s h) (fun k s => s = zd_T z k a) 4 0 a (by omega) rfl
    (fun n s hs => pk_le 4 4 (fun _ => by rw [hs]; exact zd_t95 hz H) (fun t => absurd t (by omega)))
    (fun n k s hk hs hw => pk_le 4 k (fun t => absurd t (by omega)) (fun _ => zd_t9 hz hk (hw _ (by rw [hs]; rfl))))
theorem zd_lw {post : St2 → Prop} {z p : Nat} {a h : Nat → Int32} {c : Int32} (hz : z < 6) (hp : p < 16) (H : post (zd_lo z p c a, h)) : wpX_lower post (a, h) (nI z) (nI p) c := by
  refine ⟨pk_in (16 * z + p) 96 (by omega) (zd_i2 z p), br_c (fun g => ?_) (fun g => ⟨pk_in (16 * z + p) 96 (by omega) (zd_i2 z p), nm_r (e' := upd a (16 * z + p) c) (by rw [zd_i2, nI_clamp (by omega)]) ?_⟩)⟩
  · rw [zd_i2, nI_clamp (by omega)] at g
    unfold zd_lo at H
    rw [if_pos g] at H
    exact H
  · rw [zd_i2, nI_clamp (by omega)] at g
    unfold zd_lo at H
    rw [if_neg g] at H
    exact H
/-! constrain, bound -/
theorem zd_con {post : Int32 → St2 → Prop} {x y c : Int32} {a h : Nat → Int32} (h0 : ¬ (zd_in x ∧ zd_kn y ∧ zd_n9 c) → post (-1000) (a, h))
    (h1 : ∀ z p, z < 4 → p < 16 → ¬ p / 4 = p % 4 → x = nI z → y = nI p → -9 ≤ c.toInt → c.toInt ≤ 9 → h z = 0 ∧ (zd_H z (zd_T z 4 (zd_lo z p c a)) 4 h z = 0 → post 1 (zd_T z 4 (zd_lo z p c a), zd_H z (zd_T z 4 (zd_lo z p c a)) 4 h)) ∧ (¬ zd_H z (zd_T z 4 (zd_lo z p c a)) 4 h z = 0 → post 0 (zd_T z 4 (zd_lo z p c a), zd_H z (zd_T z 4 (zd_lo z p c a)) 4 h))) :
    wpX_constrain post (a, h) x y c := by
  unfold wpX_constrain
  dsimp only
  refine zd_bad (fun n => br_f (by decide) (h0 (fun t => n t.1))) (fun z hz ez => br_t rfl (zd_badPair (fun n => br_f (by decide) (h0 (fun t => n t.2.1))) (fun p hp hpp ep => br_t rfl (br_c (fun g => h0 (fun t => t.2.2.1 g)) (fun g => br_c (fun g2 => ?_) (fun g2 => h0 (fun t => ?_)))))))
  · rw [zd_lt, zd_cm] at g
    rw [zd_le, zd_cn] at g2
    obtain ⟨k0, k1, k2⟩ := h1 z p hz hp hpp ez ep (by omega) g2
    subst ez
    subst ep
    refine ⟨pk_in z 6 (by omega), ?_⟩
    rw [nI_clamp (by omega)]
    refine br_t k0 (zd_lw (by omega) hp (zd_tt (by omega) ?_))
    revert k1 k2
    generalize zd_T z 4 (zd_lo z p c a) = A
    generalize zd_H z A 4 h = H
    intro k1 k2
    exact zd_ans (post := fun r => post r (A, H)) (by omega) k1 k2
  · have t2 := t.2.2.2
    rw [zd_lt, zd_cn] at t2
    rw [zd_le, zd_cn] at g2
    omega
theorem zd_bnd {post : Int32 → Prop} {x y : Int32} {a h : Nat → Int32} (h0 : ¬ (zd_in x ∧ zd_kn y) → post (-1000))
    (h1 : ∀ z p, z < 4 → p < 16 → ¬ p / 4 = p % 4 → x = nI z → y = nI p → (h z = 0 → post (a (16 * z + p))) ∧ (¬ h z = 0 → post (-2000))) : wpX_bound post (a, h) x y := by
  unfold wpX_bound
  dsimp only
  refine zd_bad (fun n => br_f (by decide) (h0 (fun t => n t.1))) (fun z hz ez => br_t rfl (zd_badPair (fun n => br_f (by decide) (h0 (fun t => n t.2))) (fun p hp hpp ep => br_t rfl ?_)))
  obtain ⟨k1, k2⟩ := h1 z p hz hp hpp ez ep
  subst ez
  subst ep
  refine ⟨pk_in z 6 (by omega), ?_⟩
  rw [nI_clamp (by omega), zd_i2, nI_clamp (by omega)]
  exact br_c (fun g => ⟨pk_in (16 * z + p) 96 (by omega), k1 g⟩) k2
/-! reset -/
theorem zd_r44 {post : Int32 → St2 → Prop} {z i : Nat} {c : Int32} {a h : Nat → Int32} (hz : z < 4) (hi : i < 4) (H : wX_reset_124 post (nI z) (zd_r z i c 4 a) h) : ∃ n, wX_reset_44 post (nI z) (nI i) c n 0 a h := by
  refine pk_loop (fun n j s => wX_reset_44 post (nI z) (nI i) c n (nI j) s h) (fun j s => s = zd_r z i c j a) 4 0 a (by omega) rfl
    (fun n s hs => pk_le 4 4 (fun _ => by rw [hs]; exact H) (fun t => absurd t (by omega))) ?_
  intro n j s hj hs hw
  refine pk_le 4 j (fun t => absurd t (by omega)) (fun _ => pk_eq j i (fun e => nm_r (nI_1 j) (hw s ?_)) (fun e => ⟨pk_in (16 * z + j) 96 (by omega) (zd_i2 z j), pk_in (16 * z + 4 * i + j) 96 (by omega) (zd_i3 z i j), nm_r (e' := upd s (16 * z + 4 * i + j) (c + s (16 * z + j))) (by rw [zd_i3, zd_i2, nI_clamp (by omega), nI_clamp (by omega)]) ⟨pk_in (16 * z + 4 * j) 96 (by omega) (zd_i4 z j), pk_in (16 * z + 4 * j + i) 96 (by omega) (zd_i3 z j i), nm_r (e' := zd_r1 z i c j s) (by rw [zd_i3, zd_i4, nI_clamp (by omega), nI_clamp (by omega)]; rfl) (nm_r (nI_1 j) (hw _ ?_))⟩⟩))
  · show s = if j = i then zd_r z i c j a else zd_r1 z i c j (zd_r z i c j a)
    rw [if_pos e]
    exact hs
  · show zd_r1 z i c j s = if j = i then zd_r z i c j a else zd_r1 z i c j (zd_r z i c j a)
    rw [if_neg e, hs]
def zd_st (x y c : Int32) : Prop := zd_in x ∧ ¬ y < 1 ∧ ¬ 3 < y ∧ ¬ c < 0 ∧ ¬ 9 < c
theorem zd_rst {post : Int32 → St2 → Prop} {x y c : Int32} {a h : Nat → Int32} (h0 : ¬ zd_st x y c → post (-1000) (a, h))
    (h1 : ∀ z i, z < 4 → 1 ≤ i → i < 4 → x = nI z → y = nI i → 0 ≤ c.toInt → c.toInt ≤ 9 → (h z = 0 → post 1 (zd_r z i c 4 a, h)) ∧ (¬ h z = 0 → post 0 (a, h))) : wpX_reset post (a, h) x y c := by
  unfold wpX_reset
  dsimp only
  refine zd_bad (fun n => br_f (by decide) (h0 (fun t => n t.1))) (fun z hz ez => br_t rfl (br_c (fun g => h0 (fun t => t.2.1 g)) (fun g => br_c (fun g2 => h0 (fun t => t.2.2.1 g2)) (fun g2 => br_c (fun g3 => h0 (fun t => t.2.2.2.1 g3)) (fun g3 => br_c (fun g4 => ?_) (fun g4 => h0 (fun t => ?_)))))))
  · have gy : ¬ y < 0 := fun t => g (by rw [zd_lt, zd_c0] at t; rw [zd_lt, zd_c1]; omega)
    obtain ⟨i, hi, rfl⟩ := nI_of gy
    have g' : ¬ nI i < nI 1 := g
    have g2' : ¬ nI 3 < nI i := g2
    rw [nI_ltI hi (by omega)] at g'
    rw [nI_ltI (by omega) hi] at g2'
    rw [zd_lt, zd_c0] at g3
    rw [zd_le, zd_cn] at g4
    obtain ⟨k1, k2⟩ := h1 z i hz (by omega) (by omega) ez rfl (by omega) g4
    subst ez
    refine ⟨pk_in z 6 (by omega), ?_⟩
    rw [nI_clamp (by omega)]
    exact br_c (fun e => zd_r44 hz (by omega) (zd_ans (by omega) (fun _ => k1 e) (fun n => absurd e n))) (fun e => zd_ans (by omega) (fun n => absurd n e) (fun _ => k2 e))
  · have t2 := t.2.2.2.2
    rw [zd_lt, zd_cn] at t2
    rw [zd_le, zd_cn] at g4
    omega
/-! meet -/
theorem zd_m31 {post : St2 → Prop} {z y : Nat} {a h : Nat → Int32} (hz : z < 4) (hy : y < 4) (H : ∀ a' h', (a' = zd_mw z y 16 a ∨ a' = zd_T z 4 (zd_mw z y 16 a)) → post (a', h')) : ∃ n, wX_meetWith_31 post (nI z) (nI y) n 0 a h := by
  refine pk_loop (fun n p s => wX_meetWith_31 post (nI z) (nI y) n (nI p) s h) (fun p s => s = zd_mw z y p a) 16 0 a (by omega) rfl
    (fun n s hs => pk_le 16 16 (fun _ => ⟨pk_in z 6 (by omega), br_c (fun _ => zd_tt (by omega) (H _ _ (Or.inr (by rw [hs])))) (fun _ => H _ _ (Or.inl hs))⟩) (fun t => absurd t (by omega))) ?_
  intro n p s hp hs hw
  refine pk_le 16 p (fun t => absurd t (by omega)) (fun _ => ⟨pk_in (16 * y + p) 96 (by omega) (zd_i2 y p), zd_lw (by omega) hp (nm_r (nI_1 p) (hw _ ?_))⟩)
  rw [zd_i2, nI_clamp (by omega), hs]
  rfl
theorem zd_mt {post : Int32 → St2 → Prop} {x y : Int32} {a h : Nat → Int32} (h0 : ¬ (zd_in x ∧ zd_in y) → post (-1000) (a, h))
    (h1 : ∀ z w, z < 4 → w < 4 → x = nI z → y = nI w → ∀ r a' h', (r = 0 ∨ r = 1) → (a' = zd_mw z w 16 a ∨ a' = zd_T z 4 (zd_mw z w 16 a)) → post r (a', h')) : wpX_meet post (a, h) x y := by
  unfold wpX_meet
  dsimp only
  refine zd_bad (fun n => br_f (by decide) (h0 (fun t => n t.1))) (fun z hz ez => br_t rfl (zd_bad (fun n => br_f (by decide) (h0 (fun t => n t.2))) (fun w hw ew => br_t rfl ?_)))
  have k := h1 z w hz hw ez ew
  subst ez
  subst ew
  refine ⟨pk_in z 6 (by omega), br_c (fun _ => ⟨pk_in w 6 (by omega), br_c (fun _ => ⟨pk_in z 6 (by omega), nm_e (zd_m31 hz hw ?_)⟩) (fun _ => ⟨pk_in z 6 (by omega), nm_e (zd_m31 hz hw ?_)⟩)⟩) (fun _ => ⟨pk_in z 6 (by omega), nm_e (zd_m31 hz hw ?_)⟩)⟩
  all_goals exact fun a' h' e => zd_ans (by omega) (fun _ => k 1 a' h' (Or.inr rfl) e) (fun _ => k 0 a' h' (Or.inl rfl) e)
/-! count -/
theorem zd_gr {post : Int32 → Prop} {u : St2} {x y : Int32} (h : ∀ r : Int32, x.toInt ≤ r.toInt → y.toInt ≤ r.toInt → post r) : wpX_greater post u x y := by
  obtain ⟨a1, a2⟩ := u
  refine br_c (fun g => h y (zd_le.mp g) (Int.le_refl _)) (fun g => h x (Int.le_refl _) ?_)
  rw [zd_le] at g
  omega
theorem zd_ls {post : Int32 → Prop} {u : St2} {x y : Int32} (h : ∀ r : Int32, r.toInt ≤ x.toInt → r.toInt ≤ y.toInt → post r) : wpX_lesser post u x y := by
  obtain ⟨a1, a2⟩ := u
  refine br_c (fun g => h y (zd_le.mp g) (Int.le_refl _)) (fun g => h x (Int.le_refl _) ?_)
  rw [zd_le] at g
  omega
theorem zd_ip (n k : Nat) {x : Int32} (hx : x = nI k) : nI n + x = nI (n + k) := by
  rw [hx, nI_add]
theorem zd_th {post : Int32 → Prop} {z : Nat} {m : Int} {x y : Int32} {a h : Nat → Int32} (hz : z < 4) (hB : zd_B m a) (hm : m < 2147483648) (H : ∀ r : Int32, 0 ≤ r.toInt → r.toInt ≤ 10 → post r) : wpX_thirds post (a, h) (nI (16 * z)) x y := by
  have b3 := hB (16 * z + 3) (by omega)
  have b3' := b3.2.2 (by omega)
  have b12 := (hB (16 * z + 12) (by omega)).2.1
  have n3 : (-(a (16 * z + 3))).toInt = -(a (16 * z + 3)).toInt := zd_neg (by omega)
  refine ⟨pk_in (16 * z + 3) 96 (by omega) (zd_ip (16 * z) 3 (x := 3) rfl), pk_in (16 * z + 7) 96 (by omega) (zd_ip (16 * z) 7 (x := 7) rfl), zd_gr (fun r3 p1 _ => ⟨pk_in (16 * z + 11) 96 (by omega) (zd_ip (16 * z) 11 (x := 11) rfl), zd_gr (fun r5 p2 _ => ⟨pk_in (16 * z + 12) 96 (by omega) (zd_ip (16 * z) 12 (x := 12) rfl), pk_in (16 * z + 13) 96 (by omega) (zd_ip (16 * z) 13 (x := 13) rfl), zd_ls (fun r8 p3 _ => ⟨pk_in (16 * z + 14) 96 (by omega) (zd_ip (16 * z) 14 (x := 14) rfl), zd_ls (fun r10 p4 _ => ?_)⟩)⟩)⟩)⟩
  rw [zd_ip (16 * z) 3 (x := 3) rfl, nI_clamp (by omega), n3] at p1
  rw [zd_ip (16 * z) 12 (x := 12) rfl, nI_clamp (by omega)] at p3
  refine br_c (fun g => ?_) (fun _ => H 0 (by decide) (by decide))
  rw [zd_le] at g
  have e1 : (r10 - r5).toInt = r10.toInt - r5.toInt := zd_sub (by omega) (by omega)
  have e2 : (r10 - r5 + 1).toInt = (r10 - r5).toInt + (1 : Int32).toInt := zd_add (by rw [zd_c1]; omega) (by rw [zd_c1]; omega)
  rw [zd_c1] at e2
  exact H _ (by omega) (by omega)
theorem zd_c112 {post : Int32 → Prop} {J : Int32 → Int32 → Prop} {z : Nat} {m : Int} {x4 x6 : Int32} {a h : Nat → Int32} (hz : z < 4) (hB : zd_B m a) (hm : m < 2147483648) (hx4 : 0 ≤ x4.toInt) (hx4' : x4.toInt ≤ 9) (hx6 : x6.toInt ≤ 9)
    (H : ∀ s x : Int32, x.toInt = x4.toInt + 1 → 0 ≤ s.toInt → s.toInt ≤ 100 * x4.toInt + 100 → J s x) (s0 y0 : Int32) (hs : 0 ≤ s0.toInt) (hs' : s0.toInt ≤ 100 * x4.toInt) (hy : 0 ≤ y0.toInt) : ∃ n, wX_count_112 post J (nI (16 * z)) x4 x6 a h n s0 y0 := by
  refine lp2 (fun n s y => wX_count_112 post J (nI (16 * z)) x4 x6 a h n s y) (fun s y => 0 ≤ s.toInt ∧ 0 ≤ y.toInt ∧ s.toInt ≤ 100 * x4.toInt + 10 * y.toInt ∧ s.toInt ≤ 100 * x4.toInt + 100) (fun s y => (10 - y.toInt).toNat) ?_ s0 y0 ⟨hs, hy, by omega, by omega⟩
  intro n s y hI hw
  obtain ⟨i1, i2, i3, i4⟩ := hI
  refine br_c (fun g => nm_e (H s _ ?_ i1 i4)) (fun g => zd_th hz hB hm (fun r r1 r2 => nm_e (nm_e (hw _ _ ?_ ?_))))
  · rw [zd_add (by rw [zd_c1]; omega) (by rw [zd_c1]; omega), zd_c1]
  · rw [zd_lt] at g
    have e1 : (s + r).toInt = s.toInt + r.toInt := zd_add (by omega) (by omega)
    have e2 : (y + 1).toInt = y.toInt + (1 : Int32).toInt := zd_add (by rw [zd_c1]; omega) (by rw [zd_c1]; omega)
    rw [zd_c1] at e2
    exact ⟨by omega, by omega, by omega, by omega⟩
  · rw [zd_lt] at g
    have e2 : (y + 1).toInt = y.toInt + (1 : Int32).toInt := zd_add (by rw [zd_c1]; omega) (by rw [zd_c1]; omega)
    rw [zd_c1] at e2
    show (10 - (y + 1).toInt).toNat < (10 - y.toInt).toNat
    omega
theorem zd_c41 {post : Int32 → Prop} {z : Nat} {m : Int} {a h : Nat → Int32} (hz : z < 4) (hB : zd_B m a) (hm : m < 2147483648) (H : ∀ r : Int32, 0 ≤ r.toInt → r.toInt ≤ 1000 → post r) (x0 : Int32) (hx : 0 ≤ x0.toInt) : ∃ n, wX_count_41 post (nI (16 * z)) a h n 0 x0 := by
  have b2 := hB (16 * z + 2) (by omega)
  have b2' := b2.2.2 (by omega)
  have b4 := (hB (16 * z + 4) (by omega)).2.1
  have b8 := (hB (16 * z + 8) (by omega)).2.1
  have n2 : (-(a (16 * z + 2))).toInt = -(a (16 * z + 2)).toInt := zd_neg (by omega)
  refine lp2 (fun n s x => wX_count_41 post (nI (16 * z)) a h n s x) (fun s x => 0 ≤ s.toInt ∧ 0 ≤ x.toInt ∧ s.toInt ≤ 100 * x.toInt ∧ s.toInt ≤ 1000) (fun s x => (10 - x.toInt).toNat) ?_ 0 x0 ⟨by decide, hx, by rw [zd_c0]; omega, by decide⟩
  intro n s x hI hw
  obtain ⟨i1, i2, i3, i4⟩ := hI
  refine ⟨pk_in (16 * z + 4) 96 (by omega) (zd_ip (16 * z) 4 (x := 4) rfl), br_c (fun g => H s i1 i4) (fun g => ⟨pk_in (16 * z + 2) 96 (by omega) (zd_ip (16 * z) 2 (x := 2) rfl), pk_in (16 * z + 6) 96 (by omega) (zd_ip (16 * z) 6 (x := 6) rfl), zd_gr (fun r12 p1 _ => ⟨pk_in (16 * z + 8) 96 (by omega) (zd_ip (16 * z) 8 (x := 8) rfl), pk_in (16 * z + 9) 96 (by omega) (zd_ip (16 * z) 9 (x := 9) rfl), zd_ls (fun r15 p2 _ => ?_)⟩)⟩)⟩
  rw [zd_ip (16 * z) 4 (x := 4) rfl, nI_clamp (by omega), zd_lt] at g
  rw [zd_ip (16 * z) 2 (x := 2) rfl, nI_clamp (by omega), n2] at p1
  rw [zd_ip (16 * z) 8 (x := 8) rfl, nI_clamp (by omega)] at p2
  exact zd_c112 hz hB hm i2 (by omega) (by omega) (fun s' x' ex s1 s2 => hw s' x' ⟨s1, by omega, by omega, by omega⟩ (by show (10 - x'.toInt).toNat < (10 - x.toInt).toNat; omega)) s r12 i1 i3 (by omega)
theorem zd_cnt {post : Int32 → Prop} {m : Int} {x : Int32} {a h : Nat → Int32} (hB : zd_B m a) (hm : m < 2147483648) (h0 : ¬ zd_in x → post (-1000)) (h1 : ∀ z, z < 4 → x = nI z → ∀ r : Int32, 0 ≤ r.toInt → r.toInt ≤ 1000 → post r) : wpX_count post (a, h) x := by
  unfold wpX_count
  dsimp only
  refine zd_bad (fun n => br_f (by decide) (h0 n)) (fun z hz ez => br_t rfl ?_)
  have k := h1 z hz ez
  subst ez
  have b1 := hB (16 * z + 1) (by omega)
  have b1' := b1.2.2 (by omega)
  have n1 : (-(a (16 * z + 1))).toInt = -(a (16 * z + 1)).toInt := zd_neg (by omega)
  refine ⟨pk_in z 6 (by omega), br_c (fun _ => nm_r (e' := nI (16 * z)) (pk_mul 16 z) ⟨pk_in (16 * z + 1) 96 (by omega) (zd_ip (16 * z) 1 (x := 1) rfl), nm_r (e' := -(a (16 * z + 1))) (by rw [zd_ip (16 * z) 1 (x := 1) rfl, nI_clamp (by omega)]) (zd_c41 hz hB hm k _ (by omega))⟩) (fun _ => k 0 (by decide) (by decide))⟩
/-! has -/
theorem zd_no {post : Int32 → Prop} {u : St2} {x i : Int32} (h : ∀ r, post r) : wpX_numberOf post u x i := by
  obtain ⟨a1, a2⟩ := u
  exact br_c (fun _ => h _) (fun _ => br_c (fun _ => ⟨by decide, h _⟩) (fun _ => br_c (fun _ => ⟨by decide, by decide, h _⟩) (fun _ => ⟨by decide, h _⟩)))
theorem zd_h35 {post : Int32 → Prop} {z : Nat} {c : Int32} {a h : Nat → Int32} (hz : z < 4) (H : ∀ r, post r) : ∃ n, wX_has_35 post (nI z) c a h n 1 0 := by
  refine pk_loop (fun n p s => wX_has_35 post (nI z) c a h n s (nI p)) (fun _ s => s = 0 ∨ s = 1) 16 0 1 (by omega) (Or.inr rfl)
    (fun n s hs => pk_le 16 16 (fun _ => ⟨?_, H s⟩) (fun t => absurd t (by omega))) ?_
  · rcases hs with e | e
    · rw [e]
      rfl
    · rw [e]
      rfl
  · intro n p s hp hs hw
    exact pk_le 16 p (fun t => absurd t (by omega)) (fun _ => ⟨by decide, zd_no (fun r1 => ⟨by decide, zd_no (fun r2 => br_c (fun _ => nm_r (nI_1 p) (hw 0 (Or.inl rfl))) (fun _ => ⟨pk_in (16 * z + p) 96 (by omega) (zd_i2 z p), br_c (fun _ => nm_r (nI_1 p) (hw 0 (Or.inl rfl))) (fun _ => nm_r (nI_1 p) (hw 1 (Or.inr rfl)))⟩))⟩)⟩)
theorem zd_has {post : Int32 → Prop} {x c : Int32} {a h : Nat → Int32} (h0 : post 0) (h1 : zd_in x → ¬ c < 0 → c ≤ 999 → ∀ r, post r) : wpX_has post (a, h) x c := by
  unfold wpX_has
  dsimp only
  by_cases hx : zd_in x
  · refine zd_bad (fun n => br_f (by decide) h0) (fun z hz ez => br_t rfl ?_)
    subst ez
    exact ⟨pk_in z 6 (by omega), br_c (fun _ => br_c (fun _ => h0) (fun g => br_c (fun g2 => zd_h35 hz (h1 hx g g2)) (fun _ => h0))) (fun _ => h0)⟩
  · refine zd_bad (fun n => br_f (by decide) h0) (fun z hz ez => absurd ?_ hx)
    subst ez
    exact ⟨nI_pos (by omega), nI_nlt (b := z) (a := 3) (by omega) (by omega)⟩
end
section
/-! the stages of the law, from its end -/
section
variable {post : Int32 → St0 → Prop} {mc ms kc ks : Nat} {x0 x1 x2 x3 x4 x6 x7 x8 x9 x10 x11 x12 x13 x14 x15 x16 x17 x18 x19 x20 x21 x22 z0 z1 : Int32}
theorem zd_467 (P : post 1 ()) (h : (¬ x12 = 0 ∧ ¬ x2 < 0 ∧ x2 ≤ 999) ∨ x11 = 0) : wL_lawOf_467 post mc ms x2 x11 x12 kc ks := by
  rcases h with h | h
  · exact br_f h.1 (br_f h.2.1 (br_t h.2.2 P))
  · have k : wL_lawOf_483 post mc ms x11 kc ks := br_t h P
    exact br_c (fun _ => k) (fun _ => br_c (fun _ => k) (fun _ => br_c (fun _ => P) (fun _ => k)))
theorem zd_432 (h : wL_lawOf_467 post mc ms x2 x11 x12 kc ks) (hc : zd_in x4 → ¬ x10 < 0 ∧ ¬ 1000 < x10) (hn : ¬ zd_in x4 → x10 = -1000) : wL_lawOf_432 post mc ms x2 x4 x10 x11 x12 kc ks := by
  have k : ¬ zd_in x4 → wL_lawOf_459 post mc ms x2 x10 x11 x12 kc ks := fun n => br_t (hn n) h
  exact br_c (fun g => k (fun t => t.1 g)) (fun g => br_c (fun g2 => k (fun t => t.2 g2)) (fun g2 => br_f (hc ⟨g, g2⟩).1 (br_f (hc ⟨g, g2⟩).2 h)))
theorem zd_397 (e : z1 = z0) (h : wL_lawOf_432 post mc ms x2 x4 x10 x11 x12 kc ks) (hm : ¬ x12 = 0 → ¬ x13 = 0 → x9 = 0 ∨ x9 = 1) (hn : x12 = 0 ∨ x13 = 0 → x9 = -1000) : wL_lawOf_397 post mc ms x2 x4 x9 x10 x11 x12 x13 z0 z1 kc ks := by
  have k : x12 = 0 ∨ x13 = 0 → wL_lawOf_424 post mc ms x2 x4 x9 x10 x11 x12 kc ks := fun n => br_t (hn n) h
  exact br_t e (br_c (fun g => k (Or.inl g)) (fun g => br_c (fun g2 => k (Or.inr g2)) (fun g2 => br_c (fun _ => h) (fun g3 => br_t ((hm g g2).resolve_left g3) h))))
theorem zd_366 (e : z1 = z0) (h : ∀ w, x8 = w → wL_lawOf_397 post mc ms x2 x4 x9 x10 x11 x12 x13 w x8 kc ks) (r1 : x22 = 0 → x8 = -1000) (r2 : ¬ x22 = 0 → ¬ x20 = 0 → ¬ x18 = 0 → x8 = 0) (r3 : ¬ x22 = 0 → x20 = 0 ∨ x18 = 0 → x8 = 1) : wL_lawOf_366 post mc ms x2 x4 x8 x9 x10 x11 x12 x13 x18 x20 x22 z0 z1 kc ks :=
  br_t e (br_c (fun g => h (-1000) (r1 g)) (fun g => br_c (fun g2 => h 1 (r3 g (Or.inl g2))) (fun g2 => br_c (fun g3 => h 1 (r3 g (Or.inr g3))) (fun g3 => h 0 (r2 g g2 g3)))))
theorem zd_327 (e : z1 = z0) (h : ∀ w, x7 = w → wL_lawOf_366 post mc ms x2 x4 x8 x9 x10 x11 x12 x13 x18 x20 x22 w x7 kc ks) (b1 : x13 = 0 ∨ x14 = 0 → x7 = -1000) (b2 : ¬ x13 = 0 → ¬ x14 = 0 → ¬ x20 = 0 → ¬ x18 = 0 → x7 = -2000) (b3 : ¬ x13 = 0 → ¬ x14 = 0 → x20 = 0 ∨ x18 = 0 → x7 = x21) : wL_lawOf_327 post mc ms x2 x4 x7 x8 x9 x10 x11 x12 x13 x14 x18 x20 x21 x22 z0 z1 kc ks :=
  br_t e (br_c (fun g => h (-1000) (b1 (Or.inl g))) (fun g => br_c (fun g2 => h (-1000) (b1 (Or.inr g2))) (fun g2 => br_c (fun g3 => h x21 (b3 g g2 (Or.inl g3))) (fun g3 => br_c (fun g4 => h x21 (b3 g g2 (Or.inr g4))) (fun g4 => h (-2000) (b2 g g2 g3 g4))))))
theorem zd_302 (h : ∀ w, x6 = w → wL_lawOf_327 post mc ms x2 x4 x7 x8 x9 x10 x11 x12 x13 x14 x18 x20 x21 z0 w x6 kc ks) (p1 : x15 = 0 → x6 = -1000) (p2 : ¬ x15 = 0 → x18 = 0 → x6 = 1) (p3 : ¬ x15 = 0 → ¬ x18 = 0 → x6 = 0) : wL_lawOf_302 post mc ms x2 x4 x6 x7 x8 x9 x10 x11 x12 x13 x14 x15 x18 x20 x21 z0 kc ks :=
  br_c (fun g => h (-1000) (p1 g)) (fun g => br_c (fun g2 => h 1 (p2 g g2)) (fun g2 => h 0 (p3 g g2)))
theorem zd_268 (h : ∀ v, (v = 0 ↔ ¬ (¬ x13 = 0 ∧ ¬ x4 < 1 ∧ ¬ 3 < x4 ∧ ¬ x2 < 0 ∧ ¬ 9 < x2)) → wL_lawOf_302 post mc ms x2 x4 x6 x7 x8 x9 x10 x11 x12 x13 x14 x15 x18 x20 z0 v kc ks) : wL_lawOf_268 post mc ms x2 x4 x6 x7 x8 x9 x10 x11 x12 x13 x14 x15 x18 x20 z0 kc ks := by
  have k : ¬ (¬ x13 = 0 ∧ ¬ x4 < 1 ∧ ¬ 3 < x4 ∧ ¬ x2 < 0 ∧ ¬ 9 < x2) → wL_lawOf_302 post mc ms x2 x4 x6 x7 x8 x9 x10 x11 x12 x13 x14 x15 x18 x20 z0 0 kc ks := fun n => h 0 ⟨fun _ => n, fun _ => rfl⟩
  exact br_c (fun g0 => k (fun t => t.1 g0)) (fun g0 => br_c (fun g1 => k (fun t => t.2.1 g1)) (fun g1 => br_c (fun g2 => k (fun t => t.2.2.1 g2)) (fun g2 => br_c (fun g3 => k (fun t => t.2.2.2.1 g3)) (fun g3 => br_c (fun g4 => k (fun t => t.2.2.2.2 g4)) (fun g4 => h 1 ⟨fun t => absurd t (by decide), fun t => absurd ⟨g0, g1, g2, g3, g4⟩ t⟩)))))
theorem zd_249 (h : ∀ v, (¬ z0 = 0 → ¬ x19 ≤ x2 → v = x2) → (z0 = 0 ∨ x19 ≤ x2 → v = x19) → wL_lawOf_268 post mc ms x2 x4 x6 x7 x8 x9 x10 x11 x12 x13 x14 x15 x18 z0 v kc ks) : wL_lawOf_249 post mc ms x2 x4 x6 x7 x8 x9 x10 x11 x12 x13 x14 x15 x18 x19 z0 kc ks :=
  br_c (fun g => h x19 (fun n => absurd g n) (fun _ => rfl)) (fun g => br_c (fun g2 => h x19 (fun _ n => absurd g2 n) (fun _ => rfl)) (fun g2 => h x2 (fun _ _ => rfl) (fun t => absurd t (fun s => s.elim g g2))))
theorem zd_232 (h : ∀ v, (v = 0 ↔ ¬ (x3 = x0 ∧ ¬ x15 = 0)) → wL_lawOf_249 post mc ms x2 x4 x6 x7 x8 x9 x10 x11 x12 x13 x14 x15 x18 z0 v kc ks) : wL_lawOf_232 post mc ms x0 x2 x3 x4 x6 x7 x8 x9 x10 x11 x12 x13 x14 x15 x18 z0 kc ks := by
  have k : ¬ (x3 = x0 ∧ ¬ x15 = 0) → wL_lawOf_249 post mc ms x2 x4 x6 x7 x8 x9 x10 x11 x12 x13 x14 x15 x18 z0 0 kc ks := fun n => h 0 ⟨fun _ => n, fun _ => rfl⟩
  exact br_c (fun g => br_c (fun g2 => k (fun t => t.2 g2)) (fun g2 => h 1 ⟨fun t => absurd t (by decide), fun t => absurd ⟨g, g2⟩ t⟩)) (fun g => k (fun t => g t.1))
theorem zd_219 (h : ∀ v, (x16 = 0 → v = 0) → (¬ x16 = 0 → v = 9) → wL_lawOf_232 post mc ms x0 x2 x3 x4 x6 x7 x8 x9 x10 x11 x12 x13 x14 x15 z0 v kc ks) : wL_lawOf_219 post mc ms x0 x2 x3 x4 x6 x7 x8 x9 x10 x11 x12 x13 x14 x15 x16 z0 kc ks :=
  br_c (fun g => h 0 (fun _ => rfl) (fun n => absurd g n)) (fun g => h 9 (fun n => absurd n g) (fun _ => rfl))
theorem zd_179 (hC : ¬ x15 = 0 → -9 ≤ x2) (h : ∀ v, (v = 0 ↔ ¬ (¬ x15 = 0 ∧ z0 = 0 ∧ ¬ 0 ≤ x2)) → wL_lawOf_219 post mc ms x0 x2 x3 x4 x6 x7 x8 x9 x10 x11 x12 x13 x14 x15 x16 v kc ks) : wL_lawOf_179 post mc ms x0 x2 x3 x4 x6 x7 x8 x9 x10 x11 x12 x13 x14 x15 x16 z0 kc ks := by
  have k0 : ¬ (¬ x15 = 0 ∧ z0 = 0 ∧ ¬ 0 ≤ x2) → wL_lawOf_218 post mc ms x0 x2 x3 x4 x6 x7 x8 x9 x10 x11 x12 x13 x14 x15 x16 kc ks := fun n => h 0 ⟨fun _ => n, fun _ => rfl⟩
  have k1 : ¬ x15 = 0 → wL_lawOf_196 post mc ms x0 x2 x3 x4 x6 x7 x8 x9 x10 x11 x12 x13 x14 x15 x16 z0 kc ks := fun g => br_c (fun g2 => br_c (fun g3 => k0 (fun t => t.2.2 g3)) (fun g3 => h 1 ⟨fun t => absurd t (by decide), fun t => absurd ⟨g, g2, g3⟩ t⟩)) (fun g2 => br_t (hC g) (k0 (fun t => g2 t.2.1)))
  exact br_c (fun g => k0 (fun t => t.1 g)) (fun g => br_c (fun _ => k1 g) (fun g2 => br_c (fun _ => k1 g) (fun _ => k0 (fun t => g2 t.2.1))))
theorem zd_165 (h : ∀ v, (¬ x14 = 0 → v = x1 - x1 / 4 * 4) → wL_lawOf_179 post mc ms x0 x2 x3 x4 x6 x7 x8 x9 x10 x11 x12 x13 x14 x15 z0 v kc ks) : wL_lawOf_165 post mc ms x0 x1 x2 x3 x4 x6 x7 x8 x9 x10 x11 x12 x13 x14 x15 z0 kc ks :=
  br_c (fun g => h 0 (fun n => absurd g n)) (fun g => ⟨by decide, h _ (fun _ => rfl)⟩)
theorem zd_151 (h : ∀ v, (¬ x14 = 0 → v = x1 / 4) → wL_lawOf_165 post mc ms x0 x1 x2 x3 x4 x6 x7 x8 x9 x10 x11 x12 x13 x14 z0 v kc ks) : wL_lawOf_151 post mc ms x0 x1 x2 x3 x4 x6 x7 x8 x9 x10 x11 x12 x13 x14 z0 kc ks :=
  br_c (fun g => h 0 (fun n => absurd g n)) (fun g => ⟨by decide, h _ (fun _ => rfl)⟩)
theorem zd_122 (h : ∀ v, (v = 0 ↔ ¬ (¬ x12 = 0 ∧ ¬ z0 = 0 ∧ ¬ x2 < -9 ∧ ¬ 9 < x2)) → wL_lawOf_151 post mc ms x0 x1 x2 x3 x4 x6 x7 x8 x9 x10 x11 x12 x13 z0 v kc ks) : wL_lawOf_122 post mc ms x0 x1 x2 x3 x4 x6 x7 x8 x9 x10 x11 x12 x13 z0 kc ks := by
  have k : ¬ (¬ x12 = 0 ∧ ¬ z0 = 0 ∧ ¬ x2 < -9 ∧ ¬ 9 < x2) → wL_lawOf_151 post mc ms x0 x1 x2 x3 x4 x6 x7 x8 x9 x10 x11 x12 x13 z0 0 kc ks := fun n => h 0 ⟨fun _ => n, fun _ => rfl⟩
  exact br_c (fun g0 => k (fun t => t.1 g0)) (fun g0 => br_c (fun g1 => k (fun t => t.2.1 g1)) (fun g1 => br_c (fun g2 => k (fun t => t.2.2.1 g2)) (fun g2 => br_c (fun g3 => k (fun t => t.2.2.2 g3)) (fun g3 => h 1 ⟨fun t => absurd t (by decide), fun t => absurd ⟨g0, g1, g2, g3⟩ t⟩))))
theorem zd_96 (h : ∀ v, (v = 0 ↔ ¬ zd_kn x1) → wL_lawOf_122 post mc ms x0 x1 x2 x3 x4 x6 x7 x8 x9 x10 x11 x12 z0 v kc ks) : wL_lawOf_96 post mc ms x0 x1 x2 x3 x4 x6 x7 x8 x9 x10 x11 x12 z0 kc ks := by
  have k : ¬ zd_kn x1 → wL_lawOf_122 post mc ms x0 x1 x2 x3 x4 x6 x7 x8 x9 x10 x11 x12 z0 0 kc ks := fun n => h 0 ⟨fun _ => n, fun _ => rfl⟩
  exact br_c (fun g => k (fun t => t.1 g)) (fun g => br_c (fun g2 => k (fun t => t.2.1 g2)) (fun g2 => ⟨by decide, by decide, br_c (fun g3 => k (fun t => t.2.2 g3)) (fun g3 => h 1 ⟨fun t => absurd t (by decide), fun t => absurd ⟨g, g2, g3⟩ t⟩)⟩))
theorem zd_80 (h : ∀ v, (v = 0 ↔ ¬ zd_in x3) → wL_lawOf_96 post mc ms x0 x1 x2 x3 x4 x6 x7 x8 x9 x10 x11 z0 v kc ks) : wL_lawOf_80 post mc ms x0 x1 x2 x3 x4 x6 x7 x8 x9 x10 x11 z0 kc ks := by
  have k : ¬ zd_in x3 → wL_lawOf_96 post mc ms x0 x1 x2 x3 x4 x6 x7 x8 x9 x10 x11 z0 0 kc ks := fun n => h 0 ⟨fun _ => n, fun _ => rfl⟩
  exact br_c (fun g => k (fun t => t.1 g)) (fun g => br_c (fun g2 => k (fun t => t.2 g2)) (fun g2 => h 1 ⟨fun t => absurd t (by decide), fun t => absurd ⟨g, g2⟩ t⟩))
end
/-! what the answers are, in the law's own words -/
def zd_ft (x y c : Int32) : Prop := zd_in x ∧ zd_kn y ∧ zd_n9 c
def zd_em (y c : Int32) : Prop := y - y / 4 * 4 = 0 ∧ ¬ 0 ≤ c
def zd_ow (x y c w : Int32) : Prop := w = x ∧ zd_ft x y c
/-- what bound answers where the zone isn't hollow -/
def zd_du (x y c w b : Int32) : Prop := ∀ t : Int32, (y / 4 = 0 → t = 0) → (¬ y / 4 = 0 → t = 9) → (zd_ow x y c w → ¬ t ≤ c → b = c) ∧ (¬ zd_ow x y c w ∨ t ≤ c → b = t)
def zd_F0 (x y c put : Int32) : Prop := (¬ zd_ft x y c → put = -1000) ∧ (zd_ft x y c → zd_em y c → put = 0) ∧ (zd_ft x y c → ¬ zd_em y c → put = 1)
def zd_F2 (x y c w b : Int32) : Prop := (¬ (zd_in w ∧ zd_kn y) → b = -1000) ∧ (zd_in w → zd_kn y → zd_ow x y c w → zd_em y c → b = -2000) ∧ (zd_in w → zd_kn y → ¬ (zd_ow x y c w ∧ zd_em y c) → zd_du x y c w b)
def zd_F3 (x y c w i r : Int32) : Prop := (¬ zd_st w i c → r = -1000) ∧ (zd_st w i c → zd_ow x y c w → zd_em y c → r = 0) ∧ (zd_st w i c → ¬ (zd_ow x y c w ∧ zd_em y c) → r = 1)
theorem zd_nz {v : Int32} {P : Prop} (e : v = 0 ↔ ¬ P) (h : ¬ v = 0) : P := Classical.byContradiction (fun n => h (e.mpr n))
theorem zd_zn {v : Int32} {P : Prop} (e : v = 0 ↔ ¬ P) (h : P) : ¬ v = 0 := fun n => e.mp n h
theorem zd_fin {post : Int32 → St0 → Prop} {mc ms kc ks : Nat} {x0 x1 x2 x3 x4 x6 x7 x8 x9 x10 x11 : Int32} (P : post 1 ()) (f0 : zd_F0 x0 x1 x2 x6) (f2 : zd_F2 x0 x1 x2 x3 x7) (f3 : zd_F3 x0 x1 x2 x3 x4 x8)
    (m1 : zd_in x0 → zd_in x3 → x9 = 0 ∨ x9 = 1) (m2 : ¬ (zd_in x0 ∧ zd_in x3) → x9 = -1000) (c1 : zd_in x4 → ¬ x10 < 0 ∧ ¬ 1000 < x10) (c2 : ¬ zd_in x4 → x10 = -1000) (hh : (zd_in x0 ∧ ¬ x2 < 0 ∧ x2 ≤ 999) ∨ x11 = 0) :
    ∀ v, (v = 0 ↔ ¬ zd_in x0) → wL_lawOf_80 post mc ms x0 x1 x2 x3 x4 x6 x7 x8 x9 x10 x11 v kc ks := by
  intro v12 e12
  refine zd_80 (fun v13 e13 => zd_96 (fun v14 e14 => zd_122 (fun v15 e15 => zd_151 (fun va ea => zd_165 (fun vb eb => ?_)))))
  have F15 : v15 = 0 ↔ ¬ zd_ft x0 x1 x2 := by
    rw [e15]
    refine not_congr ⟨fun t => ⟨zd_nz e12 t.1, zd_nz e14 t.2.1, t.2.2⟩, fun t => ⟨zd_zn e12 t.1, zd_zn e14 t.2.1, t.2.2⟩⟩
  refine zd_179 (fun g => Int32.not_lt.mp (zd_nz F15 g).2.2.1) (fun v18 e18 => zd_219 (fun v19 t0 t9 => zd_232 (fun v20 e20 => zd_249 (fun v21 d1 d2 => zd_268 (fun v22 e22 => ?_)))))
  have F18 : v18 = 0 ↔ ¬ (zd_ft x0 x1 x2 ∧ zd_em x1 x2) := by
    rw [e18]
    refine not_congr ⟨fun t => ?_, fun t => ?_⟩
    · have f := zd_nz F15 t.1
      exact ⟨f, (eb (zd_zn e14 f.2.1)).symm.trans t.2.1, t.2.2⟩
    · exact ⟨zd_zn F15 t.1, (eb (zd_zn e14 t.1.2.1)).trans t.2.1, t.2.2⟩
  have F20 : v20 = 0 ↔ ¬ zd_ow x0 x1 x2 x3 := by
    rw [e20]
    exact not_congr ⟨fun t => ⟨t.1, zd_nz F15 t.2⟩, fun t => ⟨t.1, zd_zn F15 t.2⟩⟩
  have F22 : v22 = 0 ↔ ¬ zd_st x3 x4 x2 := by
    rw [e22]
    exact not_congr ⟨fun t => ⟨zd_nz e13 t.1, t.2⟩, fun t => ⟨zd_zn e13 t.1, t.2⟩⟩
  have N : v20 = 0 ∨ v18 = 0 → ¬ (zd_ow x0 x1 x2 x3 ∧ zd_em x1 x2) := fun g t => g.elim (fun g => F20.mp g t.1) (fun g => F18.mp g ⟨t.1.2, t.2⟩)
  refine zd_302 (fun w6 e6 => zd_327 e6 (fun w7 e7 => zd_366 e7 (fun w8 e8 => zd_397 e8 (zd_432 (zd_467 P ?_) c1 c2) ?_ ?_) ?_ ?_ ?_) ?_ ?_ ?_) ?_ ?_ ?_
  · exact hh.elim (fun t => Or.inl ⟨zd_zn e12 t.1, t.2⟩) Or.inr
  · exact fun g g2 => m1 (zd_nz e12 g) (zd_nz e13 g2)
  · exact fun g => m2 (fun t => g.elim (fun g => e12.mp g t.1) (fun g => e13.mp g t.2))
  · exact fun g => f3.1 (F22.mp g)
  · exact fun g g2 g3 => f3.2.1 (zd_nz F22 g) (zd_nz F20 g2) (zd_nz F18 g3).2
  · exact fun g g2 => f3.2.2 (zd_nz F22 g) (N g2)
  · exact fun g => f2.1 (fun t => g.elim (fun g => e13.mp g t.1) (fun g => e14.mp g t.2))
  · exact fun g g2 g3 g4 => f2.2.1 (zd_nz e13 g) (zd_nz e14 g2) (zd_nz F20 g3) (zd_nz F18 g4).2
  · intro g g2 g3
    have ea' := ea g2
    have k := f2.2.2 (zd_nz e13 g) (zd_nz e14 g2) (N g3) v19 (fun t => t0 (ea'.trans t)) (fun t => t9 (fun s => t (ea'.symm.trans s)))
    by_cases h : v20 = 0 ∨ v19 ≤ x2
    · rw [d2 h]
      exact k.2 (h.elim (fun s => Or.inl (F20.mp s)) Or.inr)
    · rw [d1 (fun s => h (Or.inl s)) (fun s => h (Or.inr s))]
      exact k.1 (zd_nz F20 (fun s => h (Or.inl s))) (fun s => h (Or.inr s))
  · exact fun g => f0.1 (F15.mp g)
  · exact fun g g2 => f0.2.2 (zd_nz F15 g) (fun t => F18.mp g2 ⟨zd_nz F15 g, t⟩)
  · exact fun g g2 => f0.2.1 (zd_nz F15 g) (zd_nz F18 g2).2
end
section
/-! each answer, in the law's own words -/
theorem zd_inN {w : Nat} (h : w < 4) : zd_in (nI w) := ⟨nI_pos (by omega), nI_nlt (a := 3) (b := w) (by omega) (by omega)⟩
theorem zd_knN {p : Nat} (hp : p < 16) (hpp : ¬ p / 4 = p % 4) : zd_kn (nI p) :=
  ⟨nI_pos (by omega), nI_nlt (a := 15) (b := p) (by omega) (by omega), fun e => hpp (by rw [zd_m hp, zd_q hp, nI_eq (by omega) (by omega)] at e; exact e)⟩
theorem zd_n9N {c : Int32} (h1 : -9 ≤ c.toInt) (h2 : c.toInt ≤ 9) : zd_n9 c :=
  ⟨fun t => by rw [zd_lt, zd_cm] at t; omega, fun t => by rw [zd_lt, zd_cn] at t; omega⟩
theorem zd_n0 {k : Nat} (hk : k < 16) : nI k = 0 ↔ k = 0 := nI_eq (b := 0) (by omega) (by omega)
theorem zd_emN {p : Nat} {c : Int32} (hp : p < 16) : zd_em (nI p) c ↔ (p % 4 = 0 ∧ c.toInt < 0) := by
  unfold zd_em
  rw [zd_m hp, zd_le, zd_c0, zd_n0 (by omega)]
  exact ⟨fun t => ⟨t.1, Int.not_le.mp t.2⟩, fun t => ⟨t.1, Int.not_le.mpr t.2⟩⟩
theorem zd_bt {p : Nat} {t : Int32} (hp : p < 16) (hpp : ¬ p / 4 = p % 4) (t0 : nI p / 4 = 0 → t = 0) (t9 : ¬ nI p / 4 = 0 → t = 9) : t = zd_box p := by
  rw [zd_q hp, zd_n0 (by omega)] at t0 t9
  unfold zd_box
  by_cases g : p / 4 = 0
  · rw [if_pos (Or.inr g)]
    exact t0 g
  · rw [if_neg (fun s => s.elim hpp g)]
    exact t9 g
def zd_F1 (x y c : Int32) (A H : Nat → Int32) : Prop := zd_B 11664 A ∧ (∀ w, w < 4 → zd_ow x y c (nI w) → zd_em y c → ¬ H w = 0) ∧ (∀ w, w < 4 → ¬ (zd_ow x y c (nI w) ∧ zd_em y c) → H w = 0) ∧ (∀ w p, w < 4 → p < 16 → ¬ p / 4 = p % 4 → y = nI p → ¬ (zd_ow x y c (nI w) ∧ zd_em y c) → zd_du x y c (nI w) (A (16 * w + p)))
theorem zd_con1 {post : Int32 → St2 → Prop} {x y c : Int32} (h : ∀ put A H, zd_F0 x y c put → zd_F1 x y c A H → post put (A, H)) : wpX_constrain post (zd_G 4, fun _ => 0) x y c := by
  refine zd_con (fun n => h _ _ _ ⟨fun _ => rfl, fun f => absurd f n, fun f => absurd f n⟩ ⟨zd_B_mono zd_B_G (by omega), fun w _ o => absurd o.2 n, fun _ _ _ => rfl, fun w p hw hp hpp e _ t t0 t9 => ⟨fun o => absurd o.2 n, fun _ => ?_⟩⟩) (fun z p hz hp hpp ez ep c1 c2 => ⟨rfl, ?_⟩)
  · subst e
    rw [zd_Gv hw hp]
    exact (zd_bt hp hpp t0 t9).symm
  · obtain ⟨g1, g2, g3, g4, g5⟩ := zd_fit hz hp hpp c1 c2
    revert g1 g2 g3 g4 g5
    generalize zd_T z 4 (zd_lo z p c (zd_G 4)) = A
    generalize zd_H z A 4 (fun _ => 0) = H
    intro g1 g2 g3 g4 g5
    subst ez
    subst ep
    have ft : zd_ft (nI z) (nI p) c := ⟨zd_inN hz, zd_knN hp hpp, zd_n9N c1 c2⟩
    have em := zd_emN (c := c) hp
    have F1 : zd_F1 (nI z) (nI p) c A H := by
      refine ⟨g1, fun w hw o e => ?_, fun w hw n => ?_, fun w q hw hq hqq eq n t t0 t9 => ?_⟩
      · have ew : w = z := (nI_eq (by omega) (by omega)).mp o.1
        rw [ew, g4 (em.mp e)]
        decide
      · by_cases ew : w = z
        · rw [ew]
          exact (g5 (fun e => n ⟨⟨by rw [ew], ft⟩, em.mpr e⟩)).1
        · exact g3 w ew
      · have eqp : p = q := (nI_eq (by omega) (by omega)).mp eq
        subst eqp
        have et := zd_bt hp hpp t0 t9
        by_cases ew : w = z
        · have o : zd_ow (nI z) (nI p) c (nI w) := ⟨by rw [ew], ft⟩
          have k := (g5 (fun e => n ⟨o, em.mpr e⟩)).2
          rw [et]
          refine ⟨fun _ g => ?_, fun s => ?_⟩
          · rw [ew]
            exact k.1 (Int32.not_le.mp g)
          · rw [ew]
            exact s.elim (fun s => absurd o s) (fun s => k.2 (Int32.not_lt.mpr s))
        · exact ⟨fun o => absurd ((nI_eq (by omega) (by omega)).mp o.1) ew, fun _ => (g2 w hw ew).trans et.symm⟩
    exact ⟨fun g => h 1 A H ⟨fun n => absurd ft n, fun _ e => absurd g (by rw [g4 (em.mp e)]; decide), fun _ _ => rfl⟩ F1, fun g => h 0 A H ⟨fun n => absurd ft n, fun _ _ => rfl, fun _ e => absurd (g5 (fun s => e (em.mpr s))).1 g⟩ F1⟩
theorem zd_bnd1 {post : Int32 → Prop} {x y c w : Int32} {A H : Nat → Int32} (f : zd_F1 x y c A H) (h : ∀ b, zd_F2 x y c w b → post b) : wpX_bound post (A, H) w y := by
  refine zd_bnd (fun n => h _ ⟨fun _ => rfl, fun a b => absurd ⟨a, b⟩ n, fun a b => absurd ⟨a, b⟩ n⟩) (fun z p hz hp hpp ez ep => ?_)
  have kn : zd_in w ∧ zd_kn y := ⟨by rw [ez]; exact zd_inN hz, by rw [ep]; exact zd_knN hp hpp⟩
  subst ez
  by_cases o : zd_ow x y c (nI z) ∧ zd_em y c
  · exact ⟨fun g => absurd g (f.2.1 z hz o.1 o.2), fun _ => h _ ⟨fun n => absurd kn n, fun _ _ _ _ => rfl, fun _ _ n => absurd o n⟩⟩
  · exact ⟨fun _ => h _ ⟨fun n => absurd kn n, fun _ _ o1 o2 => absurd ⟨o1, o2⟩ o, fun _ _ _ => f.2.2.2 z p hz hp hpp ep o⟩, fun g => absurd (f.2.2.1 z hz o) g⟩
theorem zd_rst1 {post : Int32 → St2 → Prop} {x y c w i : Int32} {A H : Nat → Int32} (f : zd_F1 x y c A H) (h : ∀ r A', zd_B 11700 A' → zd_F3 x y c w i r → post r (A', H)) : wpX_reset post (A, H) w i c := by
  refine zd_rst (fun n => h _ _ (zd_B_mono f.1 (by omega)) ⟨fun _ => rfl, fun s => absurd s n, fun s => absurd s n⟩) (fun z j hz hj1 hj4 ez ej c1 c2 => ?_)
  have st : zd_st w i c := ⟨by rw [ez]; exact zd_inN hz, by rw [ej]; exact nI_nlt (a := j) (b := 1) hj1 (by omega), by rw [ej]; exact nI_nlt (a := 3) (b := j) (by omega) (by omega), fun t => by rw [zd_lt, zd_c0] at t; omega, fun t => by rw [zd_lt, zd_cn] at t; omega⟩
  subst ez
  by_cases o : zd_ow x y c (nI z) ∧ zd_em y c
  · exact ⟨fun g => absurd g (f.2.1 z hz o.1 o.2), fun _ => h _ _ (zd_B_mono f.1 (by omega)) ⟨fun n => absurd st n, fun _ _ _ => rfl, fun _ n => absurd o n⟩⟩
  · exact ⟨fun _ => h _ _ (zd_B_mono (zd_B_r f.1 (by omega) hj1 hj4 c1 c2 (by omega) (by omega) 4 (by omega)) (by omega)) ⟨fun n => absurd st n, fun _ o1 o2 => absurd ⟨o1, o2⟩ o, fun _ _ => rfl⟩, fun g => absurd (f.2.2.1 z hz o) g⟩
theorem zd_mt1 {post : Int32 → St2 → Prop} {x w : Int32} {A H : Nat → Int32} (hB : zd_B 11700 A) (h : ∀ r A' H', zd_B 15163200 A' → (zd_in x → zd_in w → r = 0 ∨ r = 1) → (¬ (zd_in x ∧ zd_in w) → r = -1000) → post r (A', H')) : wpX_meet post (A, H) x w := by
  refine zd_mt (fun n => h _ _ _ (zd_B_mono hB (by omega)) (fun a b => absurd ⟨a, b⟩ n) (fun _ => rfl)) (fun z y hz hy ez ey r a' h' hr ha => h r a' h' ?_ (fun _ _ => hr) (fun n => absurd ⟨by rw [ez]; exact zd_inN hz, by rw [ey]; exact zd_inN hy⟩ n))
  have k := zd_B_mw (z := z) (y := y) hB (by omega) (by omega) 16 (by omega)
  rcases ha with e | e
  · rw [e]
    exact zd_B_mono k (by omega)
  · rw [e]
    exact zd_B_mono (zd_B_T k (by omega) (by omega) (by omega)) (by omega)
theorem zd_cnt1 {post : Int32 → Prop} {i : Int32} {A H : Nat → Int32} (hB : zd_B 15163200 A) (h : ∀ r : Int32, (zd_in i → ¬ r < 0 ∧ ¬ 1000 < r) → (¬ zd_in i → r = -1000) → post r) : wpX_count post (A, H) i :=
  zd_cnt hB (by omega) (fun n => h _ (fun s => absurd s n) (fun _ => rfl)) (fun z hz ez r r1 r2 => h r (fun _ => ⟨fun t => by rw [zd_lt, zd_c0] at t; omega, fun t => by rw [zd_lt, zd_cK] at t; omega⟩) (fun n => absurd (by rw [ez]; exact zd_inN hz) n))
theorem zd_has1 {post : Int32 → Prop} {x c : Int32} {A H : Nat → Int32} (h : ∀ r : Int32, (zd_in x ∧ ¬ c < 0 ∧ c ≤ 999) ∨ r = 0 → post r) : wpX_has post (A, H) x c :=
  zd_has (h 0 (Or.inr rfl)) (fun a b d r => h r (Or.inl ⟨a, b, d⟩))
/-! the law -/
theorem zd_lawOf (z p c y i : Int32) : wpL_lawOf (fun r _ => r = 1) 56 896 () z p c y i := by
  refine ⟨by omega, by omega, 2, 102, by omega, by omega, zd_init (by omega) (by omega) ?_⟩
  refine zd_con1 (fun put A H f0 f => ?_)
  refine zd_bnd1 f (fun bd f2 => ?_)
  refine zd_rst1 f (fun rs A2 b2 f3 => ?_)
  refine zd_mt1 b2 (fun mt A3 H3 b3 m1 m2 => ?_)
  refine zd_cnt1 b3 (fun ct c1 c2 => ?_)
  refine zd_has1 (fun hs hh => ?_)
  have k := zd_fin (post := fun r _ => r = 1) (mc := 56) (ms := 896) (kc := 1 + 2) (ks := 2 + 102) (x0 := z) (x1 := p) (x2 := c) (x3 := y) (x4 := i) rfl f0 f2 f3 m1 m2 c1 c2 hh
  exact br_c (fun g => k 0 ⟨fun _ t => t.1 g, fun _ => rfl⟩) (fun g => br_c (fun g2 => k 0 ⟨fun _ t => t.2 g2, fun _ => rfl⟩) (fun g2 => k 1 ⟨fun t => absurd t (by decide), fun t => absurd ⟨g, g2⟩ t⟩))
theorem zd_cell {post : Int32 → Prop} {L : Nat} {xs : Nat → Int32} (k : Nat) (hL : L ≤ 5) (hk : k < 5) (h : ∀ r, post r) : wpL_cellAt post L xs () (nI k) :=
  pk_le L k (fun _ => h _) (fun t => ⟨pk_in k L t, h _⟩)
theorem i_vc (xs : Nat → Int32) (L : Nat) (hL : L ≤ 5) : wpL_law (fun r => r = 1) L xs := by
  unfold wpL_law
  exact zd_cell 0 hL (by omega) (fun a => zd_cell 1 hL (by omega) (fun b => zd_cell 2 hL (by omega) (fun c => zd_cell 3 hL (by omega) (fun d => zd_cell 4 hL (by omega) (fun e => ⟨56, 896, by omega, by omega, zd_lawOf a b c d e⟩)))))
end

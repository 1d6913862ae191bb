section
/-! the picture of a VersionStore as the law uses it: two cells, c and c + 8, are ever written -/
section
/-- a transaction: live, serial, began, written c, written d, seen c, seen d, own c, own d -/
abbrev qs_X : Type := Bool × Bool × Nat × Bool × Bool × Bool × Bool × Int32 × Int32
/-- a chain of versions: place, number of the commit, value -/
abbrev qs_C : Type := List (Nat × Nat × Int32)
def qs_i (b : Bool) : Int32 := cond b 1 0
def qs_b (m : Int32) (j : Nat) : Bool := m.toBitVec.getLsbD j
def qs_u (T : Nat → qs_X) (k : Nat) (x : qs_X) : Nat → qs_X := fun j => cond (Nat.beq j k) x (T j)
theorem qs_u_s {T : Nat → qs_X} {k : Nat} {x : qs_X} : qs_u T k x k = x := by
  unfold qs_u
  rw [Nat.beq_refl]
  rfl
theorem qs_u_n {T : Nat → qs_X} {k j : Nat} {x : qs_X} (h : j ≠ k) : qs_u T k x j = T j := by
  unfold qs_u
  cases e : Nat.beq j k with
  | true => exact absurd (Nat.eq_of_beq_eq_true e) h
  | false => rfl
theorem qs_u_all {P : Nat → qs_X → Prop} {T : Nat → qs_X} {t : Nat} {x : qs_X} (h : ∀ s, s < 6 → s ≠ t → P s (T s)) (hx : P t x) : ∀ s, s < 6 → P s (qs_u T t x s) := by
  intro s hs
  by_cases e : s = t
  · rw [e, qs_u_s]
    exact hx
  · rw [qs_u_n e]
    exact h s hs e
theorem qs_6 {P : Nat → Prop} (h0 : P 0) (h1 : P 1) (h2 : P 2) (h3 : P 3) (h4 : P 4) (h5 : P 5) : ∀ t, t < 6 → P t := by
  intro t ht
  match t, ht with
  | 0, _ => exact h0
  | 1, _ => exact h1
  | 2, _ => exact h2
  | 3, _ => exact h3
  | 4, _ => exact h4
  | 5, _ => exact h5
theorem qs_ble_t {a b : Nat} (h : a ≤ b) : Nat.ble a b = true := Nat.ble_eq_true_of_le h
theorem qs_ble_f {a b : Nat} (h : b < a) : Nat.ble a b = false := by
  cases e : Nat.ble a b with
  | true => exact absurd (Nat.le_of_ble_eq_true e) (by omega)
  | false => rfl
theorem qs_ble {a b : Nat} (h : Nat.ble a b = true) : a ≤ b := Nat.le_of_ble_eq_true h
theorem qs_and {a b : Bool} (h : (a && b) = true) : a = true ∧ b = true := by
  cases a <;> cases b <;> first | exact ⟨rfl, rfl⟩ | exact absurd h (by decide)
theorem qs_ib (b : Bool) : vp_nar .boolean (qs_i b) = qs_i b := by cases b <;> rfl
theorem qs_16 (t j : Nat) : (16 : Int32) * nI t + nI j = nI (16 * t + j) := by
  show nI 16 * nI t + nI j = _
  rw [pk_mul, nI_add]
theorem qs_neg {p : Int32} (h : p = -1) : p < 0 := by
  rw [h]
  decide
/-! bits -/
theorem qs_su : ∀ l, l < 32 → (((nI l).toUInt32 &&& Int32.toUInt32 31).toBitVec % 32).toNat = l := by decide +kernel
theorem qs_tp : ∀ l, l < 32 → ((1 : Int32) <<< (nI l &&& 31)).toBitVec = BitVec.twoPow 32 l := by decide +kernel
theorem qs_bit (m : Int32) {l : Nat} (hl : l < 32) : ((m.toUInt32 >>> ((nI l).toUInt32 &&& Int32.toUInt32 31)).toInt32 &&& 1) = 0 ↔ qs_b m l = false := by
  have e : ((m.toUInt32 >>> ((nI l).toUInt32 &&& Int32.toUInt32 31)).toInt32).toBitVec = m.toBitVec >>> l := by
    show m.toBitVec >>> (((nI l).toUInt32 &&& Int32.toUInt32 31).toBitVec % 32) = m.toBitVec >>> l
    rw [BitVec.ushiftRight_eq', qs_su l hl]
  rw [← Int32.toBitVec_inj, Int32.toBitVec_and, e]
  show (m.toBitVec >>> l &&& 1#32) = 0#32 ↔ m.toBitVec.getLsbD l = false
  rw [BitVec.and_one_eq_setWidth_ofBool_getLsbD, BitVec.getLsbD_ushiftRight, Nat.add_zero]
  cases hb : m.toBitVec.getLsbD l
  · exact ⟨fun _ => rfl, fun _ => by decide⟩
  · exact ⟨fun z => absurd z (by decide), fun z => absurd z (by decide)⟩
theorem qs_bit_t {m : Int32} {l : Nat} (hl : l < 32) (h : qs_b m l = true) : ¬ ((m.toUInt32 >>> ((nI l).toUInt32 &&& Int32.toUInt32 31)).toInt32 &&& 1) = 0 := by
  intro z
  rw [(qs_bit m hl).mp z] at h
  exact absurd h (by decide)
theorem qs_bit_n {m : Int32} {l : Nat} (hl : l < 32) (h : ¬ ((m.toUInt32 >>> ((nI l).toUInt32 &&& Int32.toUInt32 31)).toInt32 &&& 1) = 0) : qs_b m l = true := by
  cases e : qs_b m l with
  | true => rfl
  | false => exact absurd ((qs_bit m hl).mpr e) h
theorem qs_or_s (m : Int32) {k : Nat} (hk : k < 32) : qs_b (m ||| ((1 : Int32) <<< (nI k &&& 31))) k = true := by
  unfold qs_b
  rw [Int32.toBitVec_or, BitVec.getLsbD_or, qs_tp k hk, BitVec.getLsbD_twoPow]
  simp [hk]
theorem qs_or_n (m : Int32) {k j : Nat} (hk : k < 32) (h : j ≠ k) : qs_b (m ||| ((1 : Int32) <<< (nI k &&& 31))) j = qs_b m j := by
  unfold qs_b
  rw [Int32.toBitVec_or, BitVec.getLsbD_or, qs_tp k hk, BitVec.getLsbD_twoPow]
  simp [Ne.symm h]
theorem qs_or2 (m n : Int32) (j : Nat) : qs_b (m ||| n) j = (qs_b m j || qs_b n j) := by
  unfold qs_b
  rw [Int32.toBitVec_or, BitVec.getLsbD_or]
theorem qs_b0 (j : Nat) : qs_b 0 j = false := BitVec.getLsbD_zero
theorem qs_ne0 {m : Int32} {j : Nat} (h : qs_b m j = true) : ¬ m = 0 := by
  intro z
  rw [z, qs_b0] at h
  exact absurd h (by decide)
/-! chains, what a view sees -/
def qs_ch (fv : Nat) (a1 a2 a3 : Nat → Int32) : qs_C → Int32 → Prop
  | [], p => p = -1
  | e :: l, p => p = nI e.1 ∧ e.1 < fv ∧ e.2.1 < 1000 ∧ a2 e.1 = nI e.2.1 ∧ a1 e.1 = e.2.2 ∧ qs_ch fv a1 a2 a3 l (a3 e.1)
theorem qs_ch_up {fv fv' : Nat} {a1 a2 a3 b1 b2 b3 : Nat → Int32} (hf : fv ≤ fv') (h1 : ∀ v, v < fv → b1 v = a1 v) (h2 : ∀ v, v < fv → b2 v = a2 v) (h3 : ∀ v, v < fv → b3 v = a3 v) : ∀ (l : qs_C) (p : Int32), qs_ch fv a1 a2 a3 l p → qs_ch fv' b1 b2 b3 l p := by
  intro l
  induction l with
  | nil => exact fun p h => h
  | cons e l ih =>
    intro p h
    obtain ⟨q1, q2, q3, q4, q5, q6⟩ := h
    refine ⟨q1, by omega, q3, (h2 _ q2).trans q4, (h1 _ q2).trans q5, ?_⟩
    rw [h3 _ q2]
    exact ih _ q6
def qs_va : qs_C → Nat → Int32
  | [], _ => 0
  | e :: l, k => cond (Nat.ble e.2.1 k) e.2.2 (qs_va l k)
def qs_nw (l : qs_C) (be : Nat) : Bool := match l with
  | [] => false
  | e :: _ => Nat.ble (be + 1) e.2.1
def qs_mc (lc ld : qs_C) (se : Bool) (be : Nat) (wc wd sc sd : Bool) : Bool := !((wc || (se && sc)) && qs_nw lc be) && !((wd || (se && sd)) && qs_nw ld be)
def qs_L (c : Nat) (lc ld : qs_C) (j : Nat) : qs_C := if j = c then lc else if j = c + 8 then ld else []
def qs_all (T : Nat → qs_X) : Nat → Bool
  | 0 => true
  | n + 1 => qs_all T n && (T n).1
def qs_cnt (T : Nat → qs_X) : Nat → Nat
  | 0 => 0
  | n + 1 => qs_cnt T n + cond (T n).1 1 0
theorem qs_all_at {T : Nat → qs_X} : ∀ {n : Nat}, qs_all T n = true → ∀ j, j < n → (T j).1 = true := by
  intro n
  induction n with
  | zero => exact fun _ j hj => absurd hj (by omega)
  | succ n ih =>
    intro h j hj
    have h' := qs_and (a := qs_all T n) (b := (T n).1) h
    by_cases e : j = n
    · rw [e]
      exact h'.2
    · exact ih h'.1 j (by omega)
/-- some live transaction began at k' or later and before k -/
def qs_se (T : Nat → qs_X) (a b : Nat) : Nat → Bool
  | 0 => false
  | n + 1 => qs_se T a b n || ((T n).1 && (Nat.ble a (T n).2.2.1 && Nat.ble ((T n).2.2.1 + 1) b))
theorem qs_se_at {T : Nat → qs_X} {a b : Nat} : ∀ {n : Nat}, qs_se T a b n = true → ∃ t, t < n ∧ (T t).1 = true ∧ a ≤ (T t).2.2.1 ∧ (T t).2.2.1 < b := by
  intro n
  induction n with
  | zero => exact fun h => absurd (show false = true from h) (by decide)
  | succ n ih =>
    intro h
    have h' : (qs_se T a b n || ((T n).1 && (Nat.ble a (T n).2.2.1 && Nat.ble ((T n).2.2.1 + 1) b))) = true := h
    cases e : qs_se T a b n with
    | true =>
      obtain ⟨t, h1, h2⟩ := ih e
      exact ⟨t, by omega, h2⟩
    | false =>
      rw [e, Bool.false_or] at h'
      have g := qs_and h'
      have g2 := qs_and g.2
      exact ⟨n, by omega, g.1, qs_ble g2.1, qs_ble g2.2⟩
/-- every version of the rest of a chain, above it the commit k, is seen -/
def qs_tk (T : Nat → qs_X) : qs_C → Nat → Bool
  | [], _ => true
  | e :: l, k => qs_se T e.2.1 k 6 && qs_tk T l e.2.1
def qs_tl (T : Nat → qs_X) : qs_C → Bool
  | [] => true
  | e :: l => qs_tk T l e.2.1
def qs_in (lo hi : Int32) (j : Nat) : Bool := !decide (nI j < lo) && !decide (hi < nI j)
/-- the sum over the first n cells that the range holds -/
def qs_S (lo hi : Int32) (w : Nat → Int32) : Nat → Int32
  | 0 => 0
  | n + 1 => qs_S lo hi w n + cond (qs_in lo hi n) (w n) 0
theorem qs_S_0 {lo hi : Int32} {w : Nat → Int32} (i : Nat) : ∀ k, (∀ j, i ≤ j → j < i + k → w j = 0) → qs_S lo hi w (i + k) = qs_S lo hi w i := by
  intro k
  induction k with
  | zero => exact fun _ => rfl
  | succ k ih =>
    intro h
    show qs_S lo hi w (i + k) + cond (qs_in lo hi (i + k)) (w (i + k)) 0 = _
    rw [ih (fun j h1 h2 => h j h1 (by omega)), h (i + k) (by omega) (by omega)]
    cases qs_in lo hi (i + k)
    · exact Int32.add_zero _
    · exact Int32.add_zero _
theorem qs_S_16 {lo hi : Int32} {w : Nat → Int32} {c : Nat} (hc : c < 8) (h : ∀ j, j < 16 → j ≠ c → j ≠ c + 8 → w j = 0) : qs_S lo hi w 16 = cond (qs_in lo hi c) (w c) 0 + cond (qs_in lo hi (c + 8)) (w (c + 8)) 0 := by
  have e0 : qs_S lo hi w (0 + c) = qs_S lo hi w 0 := qs_S_0 0 c (fun j h1 h2 => h j (by omega) (by omega) (by omega))
  have e1 : qs_S lo hi w (c + 1 + 7) = qs_S lo hi w (c + 1) := qs_S_0 (c + 1) 7 (fun j h1 h2 => h j (by omega) (by omega) (by omega))
  have e2 : qs_S lo hi w (c + 8 + 1 + (7 - c)) = qs_S lo hi w (c + 8 + 1) := qs_S_0 (c + 8 + 1) (7 - c) (fun j h1 h2 => h j (by omega) (by omega) (by omega))
  rw [show c + 8 + 1 + (7 - c) = 16 by omega] at e2
  rw [Nat.zero_add] at e0
  rw [e2]
  show qs_S lo hi w (c + 8) + cond (qs_in lo hi (c + 8)) (w (c + 8)) 0 = _
  rw [show c + 8 = c + 1 + 7 from rfl, e1]
  show (qs_S lo hi w c + cond (qs_in lo hi c) (w c) 0) + _ = _
  rw [e0]
  show ((0 : Int32) + cond (qs_in lo hi c) (w c) 0) + _ = _
  rw [Int32.zero_add]
theorem qs_in_all : ∀ c, c < 8 → qs_in 0 15 c = true ∧ qs_in 0 15 (c + 8) = true := by decide +kernel
theorem qs_in_one : ∀ c, c < 8 → qs_in (nI c) (nI c) c = true ∧ qs_in (nI c) (nI c) (c + 8) = false := by decide +kernel
theorem qs_in_to (span : Int32) {j : Nat} (hj : j < 16) : qs_in 0 span j = !decide (span < nI j) := by
  unfold qs_in
  rw [decide_eq_false (nI_pos (n := j) (by omega))]
  rfl
end
end
section
/-! the relation of a state and its picture; methods over plain arrays -/
section
def qs_K (c fv : Nat) (lc ld : qs_C) (f g : Int32) (a1 a2 a3 a4 : Nat → Int32) : Prop := fv ≤ 120 ∧ f = nI fv ∧ g = nI (144 - fv) ∧ (∀ v, fv ≤ v → v < 143 → a3 v = nI (v + 1)) ∧ qs_ch fv a1 a2 a3 lc (a4 c) ∧ qs_ch fv a1 a2 a3 ld (a4 (c + 8)) ∧ lc.length ≤ 100 ∧ ld.length ≤ 100 ∧ (∀ j, j < 16 → j ≠ c → j ≠ c + 8 → a4 j = -1)
def qs_x (c t : Nat) (a5 a6 a7 a8 a9 a10 : Nat → Int32) (X : qs_X) : Prop := match X with
  | (op, se, be, wc, wd, sc, sd, oc, od) => a5 t = qs_i op ∧ a6 t = qs_i se ∧ a7 t = nI be ∧ be < 1000 ∧ qs_b (a8 t) c = wc ∧ qs_b (a8 t) (c + 8) = wd ∧ (∀ j, j < 16 → j ≠ c → j ≠ c + 8 → qs_b (a8 t) j = false) ∧ qs_b (a9 t) c = sc ∧ qs_b (a9 t) (c + 8) = sd ∧ a10 (16 * t + c) = oc ∧ a10 (16 * t + (c + 8)) = od
def qs_R (c cm fv : Nat) (lc ld : qs_C) (T : Nat → qs_X) (u : St2) : Prop := match u with
  | (f, g, k, a1, a2, a3, a4, a5, a6, a7, a8, a9, a10) => c < 8 ∧ cm < 900 ∧ k = nI cm ∧ qs_K c fv lc ld f g a1 a2 a3 a4 ∧ ∀ t, t < 6 → qs_x c t a5 a6 a7 a8 a9 a10 (T t)
variable {f g k : Int32} {a1 a2 a3 a4 a5 a6 a7 a8 a9 a10 : Nat → Int32}
theorem qs_x_keep {c s : Nat} {b5 b6 b7 b8 b9 b10 : Nat → Int32} {X : qs_X} (h5 : b5 s = a5 s) (h6 : b6 s = a6 s) (h7 : b7 s = a7 s) (h8 : b8 s = a8 s) (h9 : b9 s = a9 s) (hc : b10 (16 * s + c) = a10 (16 * s + c)) (hd : b10 (16 * s + (c + 8)) = a10 (16 * s + (c + 8))) (h : qs_x c s a5 a6 a7 a8 a9 a10 X) : qs_x c s b5 b6 b7 b8 b9 b10 X := by
  obtain ⟨op, se, be, wc, wd, sc, sd, oc, od⟩ := X
  obtain ⟨q1, q2, q3, q4, q5, q6, q7, q8, q9, q10, q11⟩ := h
  refine ⟨h5.trans q1, h6.trans q2, h7.trans q3, q4, ?_, ?_, ?_, ?_, ?_, hc.trans q10, hd.trans q11⟩
  · rw [h8]
    exact q5
  · rw [h8]
    exact q6
  · rw [h8]
    exact q7
  · rw [h9]
    exact q8
  · rw [h9]
    exact q9
theorem qs_x_1 {c t : Nat} {X : qs_X} (h : qs_x c t a5 a6 a7 a8 a9 a10 X) : a5 t = qs_i X.1 ∧ a7 t = nI X.2.2.1 ∧ X.2.2.1 < 1000 := by
  obtain ⟨op, se, be, wc, wd, sc, sd, oc, od⟩ := X
  obtain ⟨q1, q2, q3, q4, q5⟩ := h
  exact ⟨q1, q3, q4⟩
theorem qs_R_c {c cm fv : Nat} {lc ld : qs_C} {T : Nat → qs_X} {u : St2} (h : qs_R c cm fv lc ld T u) : c < 8 := by
  obtain ⟨f, g, k, a1, a2, a3, a4, a5, a6, a7, a8, a9, a10⟩ := u
  obtain ⟨q1, q2⟩ := h
  exact q1
theorem qs_K_at {c fv : Nat} {lc ld : qs_C} (h : qs_K c fv lc ld f g a1 a2 a3 a4) {j : Nat} (hj : j < 16) : qs_ch fv a1 a2 a3 (qs_L c lc ld j) (a4 j) ∧ (qs_L c lc ld j).length ≤ 100 := by
  obtain ⟨_, _, _, _, h5, h6, h7, h8, h9⟩ := h
  unfold qs_L
  by_cases e : j = c
  · rw [if_pos e, e]
    exact ⟨h5, h7⟩
  · rw [if_neg e]
    by_cases e2 : j = c + 8
    · rw [if_pos e2, e2]
      exact ⟨h6, h8⟩
    · rw [if_neg e2]
      exact ⟨h9 j hj e e2, by decide⟩
theorem qs_R_cg {c cm fv : Nat} {lc ld : qs_C} {T T' : Nat → qs_X} {u : St2} (h : qs_R c cm fv lc ld T u) (e : ∀ t, t < 6 → T t = T' t) : qs_R c cm fv lc ld T' u := by
  obtain ⟨f, g, k, a1, a2, a3, a4, a5, a6, a7, a8, a9, a10⟩ := u
  obtain ⟨q1, q2, q3, q4, q5⟩ := h
  refine ⟨q1, q2, q3, q4, fun t ht => ?_⟩
  rw [← e t ht]
  exact q5 t ht
theorem qs_isOpen {post : Int32 → Prop} {t : Nat} {b : Bool} (ht : t < 6) (h5 : a5 t = qs_i b) (hp : post (qs_i b)) : wpX_isOpen post (f, g, k, a1, a2, a3, a4, a5, a6, a7, a8, a9, a10) (nI t) := by
  unfold wpX_isOpen
  refine br_f (nI_pos (by omega)) (pk_lt 5 t (fun z => absurd z (by omega)) (fun _ => ⟨pk_in t 6 ht, ?_⟩))
  rw [nI_clamp (show t < 2 ^ 31 by omega), h5]
  cases b
  · exact br_t rfl hp
  · exact br_f (by decide) hp
theorem qs_isCell {post : Int32 → Prop} {j : Nat} (hj : j < 16) (hp : post 1) : wpX_isCell post () (nI j) := by
  unfold wpX_isCell
  exact br_f (nI_pos (by omega)) (pk_lt 15 j (fun z => absurd z (by omega)) (fun _ => hp))
theorem qs_note {post : St2 → Prop} {t j : Nat} (ht : t < 6) (hj : j < 16)
    (H : ∀ b9 : Nat → Int32, (∀ s, s ≠ t → b9 s = a9 s) → (qs_b (b9 t) j = (qs_b (a9 t) j || !qs_b (a8 t) j)) → (∀ i, i ≠ j → qs_b (b9 t) i = qs_b (a9 t) i) → post (f, g, k, a1, a2, a3, a4, a5, a6, a7, a8, b9, a10)) :
    wpX_note post (f, g, k, a1, a2, a3, a4, a5, a6, a7, a8, a9, a10) (nI t) (nI j) := by
  unfold wpX_note
  refine ⟨pk_in t 6 ht, ?_⟩
  rw [nI_clamp (show t < 2 ^ 31 by omega)]
  cases hb : qs_b (a8 t) j with
  | false =>
    refine br_t ((qs_bit _ (by omega)).mpr hb) ⟨pk_in t 6 ht, pk_in t 6 ht, nm_e (H _ (fun s hs => pk_un hs) ?_ (fun i hi => ?_))⟩
    · rw [pk_us, qs_or_s _ (by omega), hb]
      simp
    · rw [pk_us, qs_or_n _ (by omega) hi]
  | true =>
    refine br_f (qs_bit_t (by omega) hb) (H a9 (fun s hs => rfl) ?_ (fun i hi => rfl))
    rw [hb]
    simp
theorem qs_version10 {post : Int32 → Prop} {fv lim : Nat} (hf : fv ≤ 144) (hlim : lim < 1000) : ∀ (l : qs_C) (p : Int32) (s : Nat), qs_ch fv a1 a2 a3 l p → s + l.length < 144 → post (qs_va l lim) → wX_versionAt_10 post (nI lim) f g k a1 a2 a3 a4 a5 a6 a7 a8 a9 a10 (l.length + 1) p (nI s) := by
  intro l
  induction l with
  | nil =>
    intro p s h hs hp
    have hs' : s < 144 := hs
    exact pk_le 144 s (fun z => absurd z (by omega)) (fun _ => br_t (qs_neg h) hp)
  | cons e l ih =>
    intro p s h hs hp
    obtain ⟨q1, q2, q3, q4, q5, q6⟩ := h
    have hs' : s + (l.length + 1) < 144 := hs
    have hcl : p.toNatClampNeg = e.1 := pk_cl e.1 q1
    refine pk_le 144 s (fun z => absurd z (by omega)) (fun _ => br_f (by rw [q1]; exact nI_pos (by omega)) ⟨pk_in e.1 144 (by omega) q1, ?_⟩)
    rw [hcl]
    refine pk_lt lim e.2.1 (fun z => ⟨pk_in e.1 144 (by omega) q1, nm_e (nm_r (nI_1 s) (ih _ _ q6 (by omega) ?_))⟩) (fun z => ⟨pk_in e.1 144 (by omega) q1, ?_⟩) rfl q4
    · have hp' : post (cond (Nat.ble e.2.1 lim) e.2.2 (qs_va l lim)) := hp
      rw [qs_ble_f z] at hp'
      exact hp'
    · have hp' : post (cond (Nat.ble e.2.1 lim) e.2.2 (qs_va l lim)) := hp
      rw [qs_ble_t z] at hp'
      rw [q5]
      exact hp'
theorem qs_versionAt {post : Int32 → Prop} {fv lim j : Nat} {l : qs_C} (hf : fv ≤ 144) (hlim : lim < 1000) (hj : j < 16) (h : qs_ch fv a1 a2 a3 l (a4 j)) (hl : l.length ≤ 100) (hp : post (qs_va l lim)) : wpX_versionAt post (f, g, k, a1, a2, a3, a4, a5, a6, a7, a8, a9, a10) (nI j) (nI lim) := by
  unfold wpX_versionAt
  refine ⟨pk_in j 16 hj, nm_r (e' := a4 j) (by rw [nI_clamp (show j < 2 ^ 31 by omega)]) ?_⟩
  exact ⟨l.length + 1, qs_version10 hf hlim l (a4 j) 0 h (by omega) hp⟩
theorem qs_visible {post : Int32 → Prop} {fv be t j : Nat} {l : qs_C} (hf : fv ≤ 144) (ht : t < 6) (hj : j < 16) (h7 : a7 t = nI be) (hbe : be < 1000) (h : qs_ch fv a1 a2 a3 l (a4 j)) (hl : l.length ≤ 100) (hp : post (cond (qs_b (a8 t) j) (a10 (16 * t + j)) (qs_va l be))) : wpX_visible post (f, g, k, a1, a2, a3, a4, a5, a6, a7, a8, a9, a10) (nI t) (nI j) := by
  unfold wpX_visible
  refine ⟨pk_in t 6 ht, ?_⟩
  rw [nI_clamp (show t < 2 ^ 31 by omega), qs_16, nI_clamp (show 16 * t + j < 2 ^ 31 by omega)]
  cases hb : qs_b (a8 t) j with
  | false =>
    rw [hb] at hp
    refine br_t ((qs_bit _ (by omega)).mpr hb) ⟨pk_in t 6 ht, ?_⟩
    rw [h7]
    exact qs_versionAt hf hbe hj h hl hp
  | true =>
    rw [hb] at hp
    exact br_f (qs_bit_t (by omega) hb) ⟨pk_in (16 * t + j) 96 (by omega), hp⟩
theorem qs_write {post : Int32 → St2 → Prop} {t j : Nat} {x : Int32} (ht : t < 6) (hj : j < 16) (h5 : a5 t = qs_i true)
    (hp : post 0 (f, g, k, a1, a2, a3, a4, a5, a6, a7, upd a8 t (a8 t ||| ((1 : Int32) <<< (nI j &&& 31))), a9, upd a10 (16 * t + j) x)) :
    wpX_write post (f, g, k, a1, a2, a3, a4, a5, a6, a7, a8, a9, a10) (nI t) (nI j) x := by
  unfold wpX_write
  refine qs_isOpen ht h5 (br_f (by decide) (qs_isCell hj (br_f (by decide) ?_)))
  rw [nI_clamp (show t < 2 ^ 31 by omega), qs_16, nI_clamp (show 16 * t + j < 2 ^ 31 by omega)]
  exact ⟨pk_in (16 * t + j) 96 (by omega), nm_e ⟨pk_in t 6 ht, pk_in t 6 ht, nm_e hp⟩⟩
/-! may a transaction commit -/
theorem qs_may_step {post : Int32 → Prop} {m : Int32} {fv be t j n : Nat} {l : qs_C} (hf : fv ≤ 144) (ht : t < 6) (hj : j < 16) (h7 : a7 t = nI be) (hbe : be < 1000) (h : qs_ch fv a1 a2 a3 l (a4 j))
    (H0 : (qs_b m j && qs_nw l be) = true → post 0)
    (H1 : (qs_b m j && qs_nw l be) = false → wX_mayCommit_34 post (nI t) m f g k a1 a2 a3 a4 a5 a6 a7 a8 a9 a10 n (nI (j + 1))) :
    wX_mayCommit_34 post (nI t) m f g k a1 a2 a3 a4 a5 a6 a7 a8 a9 a10 (n + 1) (nI j) := by
  refine pk_le 16 j (fun z => absurd z (by omega)) (fun _ => ⟨pk_in j 16 hj, ?_⟩)
  rw [nI_clamp (show j < 2 ^ 31 by omega), nI_clamp (show t < 2 ^ 31 by omega)]
  cases l with
  | nil =>
    have H : wX_mayCommit_34 post (nI t) m f g k a1 a2 a3 a4 a5 a6 a7 a8 a9 a10 n (nI (j + 1)) := H1 (by cases qs_b m j <;> rfl)
    refine br_t (qs_neg h) ?_
    unfold wX_mayCommit_73 wX_mayCommit_74
    exact br_c (fun _ => nm_r (nI_1 j) H) (fun _ => br_t rfl (nm_r (nI_1 j) H))
  | cons e l =>
    obtain ⟨q1, q2, q3, q4, q5, q6⟩ := h
    have hcl : (a4 j).toNatClampNeg = e.1 := pk_cl e.1 q1
    refine br_f (by rw [q1]; exact nI_pos (by omega)) ⟨pk_in j 16 hj, pk_in e.1 144 (by omega) q1, pk_in t 6 ht, ?_⟩
    rw [hcl]
    refine pk_le e.2.1 be (fun z => ?_) (fun z => ?_) q4 h7
    · have hn : qs_nw (e :: l) be = false := qs_ble_f (by omega)
      have H : wX_mayCommit_34 post (nI t) m f g k a1 a2 a3 a4 a5 a6 a7 a8 a9 a10 n (nI (j + 1)) := H1 (by rw [hn]; cases qs_b m j <;> rfl)
      unfold wX_mayCommit_73 wX_mayCommit_74
      exact br_c (fun _ => nm_r (nI_1 j) H) (fun _ => br_t rfl (nm_r (nI_1 j) H))
    · have hn : qs_nw (e :: l) be = true := qs_ble_t (by omega)
      unfold wX_mayCommit_74
      refine br_c (fun y => nm_r (nI_1 j) (H1 ?_)) (fun y => br_f (by decide) (H0 ?_))
      · rw [(qs_bit m (by omega)).mp y]
        rfl
      · rw [qs_bit_n (by omega) y, hn]
        rfl
theorem qs_may_loop {post : Int32 → Prop} {m : Int32} {c fv be t : Nat} {lc ld : qs_C} {bc bd : Bool} (hc : c < 8) (ht : t < 6) (h7 : a7 t = nI be) (hbe : be < 1000) (hK : qs_K c fv lc ld f g a1 a2 a3 a4) (hbc : qs_b m c = bc) (hbd : qs_b m (c + 8) = bd)
    (hp : post (qs_i (!(bc && qs_nw lc be) && !(bd && qs_nw ld be)))) :
    ∃ n, wX_mayCommit_34 post (nI t) m f g k a1 a2 a3 a4 a5 a6 a7 a8 a9 a10 n 0 := by
  have hf : fv ≤ 144 := by have := hK.1; omega
  have hL : ∀ j, j < 16 → qs_ch fv a1 a2 a3 (qs_L c lc ld j) (a4 j) := fun j hj => (qs_K_at hK hj).1
  have e1 : qs_L c lc ld c = lc := if_pos rfl
  have e2 : qs_L c lc ld (c + 8) = ld := (if_neg (by omega)).trans (if_pos rfl)
  have e3 : ∀ j, j ≠ c → j ≠ c + 8 → qs_L c lc ld j = [] := fun j h1 h2 => (if_neg h1).trans (if_neg h2)
  have o3 : ∀ j, j ≠ c → j ≠ c + 8 → (qs_b m j && qs_nw (qs_L c lc ld j) be) = false := by
    intro j h1 h2
    rw [e3 j h1 h2]
    cases qs_b m j <;> rfl
  have bad : ∀ e, e < 16 → (∀ j, j < e → (qs_b m j && qs_nw (qs_L c lc ld j) be) = false) → (qs_b m e && qs_nw (qs_L c lc ld e) be) = true → post 0 → ∃ n, wX_mayCommit_34 post (nI t) m f g k a1 a2 a3 a4 a5 a6 a7 a8 a9 a10 n 0 := by
    intro e he h1 h2 h3
    exact pk_loop (σ := Unit) (fun n i _ => wX_mayCommit_34 post (nI t) m f g k a1 a2 a3 a4 a5 a6 a7 a8 a9 a10 n (nI i)) (fun _ _ => True) e 0 () (by omega) trivial
      (fun n _ _ => qs_may_step hf ht he h7 hbe (hL e he) (fun _ => h3) (fun z => by rw [h2] at z; exact absurd z (by decide)))
      (fun n i _ hi _ hw => qs_may_step hf ht (by omega) h7 hbe (hL i (by omega)) (fun z => by rw [h1 i hi] at z; exact absurd z (by decide)) (fun _ => hw () trivial))
  cases hx : (bc && qs_nw lc be) with
  | true =>
    rw [hx] at hp
    refine bad c (by omega) (fun j hj => o3 j (by omega) (by omega)) ?_ hp
    rw [e1, hbc]
    exact hx
  | false =>
    rw [hx] at hp
    cases hy : (bd && qs_nw ld be) with
    | true =>
      rw [hy] at hp
      refine bad (c + 8) (by omega) (fun j hj => ?_) ?_ hp
      · by_cases e : j = c
        · rw [e, e1, hbc]
          exact hx
        · exact o3 j e (by omega)
      · rw [e2, hbd]
        exact hy
    | false =>
      rw [hy] at hp
      have good : ∀ j, j < 16 → (qs_b m j && qs_nw (qs_L c lc ld j) be) = false := by
        intro j hj
        by_cases e : j = c
        · rw [e, e1, hbc]
          exact hx
        · by_cases e' : j = c + 8
          · rw [e', e2, hbd]
            exact hy
          · exact o3 j e e'
      exact pk_loop (σ := Unit) (fun n i _ => wX_mayCommit_34 post (nI t) m f g k a1 a2 a3 a4 a5 a6 a7 a8 a9 a10 n (nI i)) (fun _ _ => True) 16 0 () (by omega) trivial
        (fun n _ _ => pk_le 16 16 (fun _ => hp) (fun z => absurd z (by omega)))
        (fun n i _ hi _ hw => qs_may_step hf ht hi h7 hbe (hL i hi) (fun z => by rw [good i hi] at z; exact absurd z (by decide)) (fun _ => hw () trivial))
theorem qs_mayCommit {post : Int32 → Prop} {c fv be t : Nat} {lc ld : qs_C} {op se wc wd sc sd : Bool} {oc od : Int32} (hc : c < 8) (ht : t < 6) (hK : qs_K c fv lc ld f g a1 a2 a3 a4) (hx : qs_x c t a5 a6 a7 a8 a9 a10 (op, se, be, wc, wd, sc, sd, oc, od))
    (hp : post (qs_i (qs_mc lc ld se be wc wd sc sd))) :
    wpX_mayCommit post (f, g, k, a1, a2, a3, a4, a5, a6, a7, a8, a9, a10) (nI t) := by
  obtain ⟨q1, q2, q3, q4, q5, q6, q7, q8, q9, q10, q11⟩ := hx
  unfold wpX_mayCommit
  refine ⟨pk_in t 6 ht, ?_⟩
  rw [nI_clamp (show t < 2 ^ 31 by omega), q2]
  cases se with
  | false =>
    refine br_t rfl ⟨pk_in t 6 ht, nm_e (qs_may_loop hc ht q3 q4 hK q5 q6 ?_)⟩
    have hp' : post (qs_i (!((wc || (false && sc)) && qs_nw lc be) && !((wd || (false && sd)) && qs_nw ld be))) := hp
    rw [Bool.false_and, Bool.false_and, Bool.or_false, Bool.or_false] at hp'
    exact hp'
  | true =>
    refine br_f (by decide) ⟨pk_in t 6 ht, pk_in t 6 ht, nm_e (qs_may_loop hc ht q3 q4 hK (bc := wc || sc) (bd := wd || sd) ?_ ?_ ?_)⟩
    · rw [qs_or2, q5, q8]
    · rw [qs_or2, q6, q9]
    · have hp' : post (qs_i (!((wc || (true && sc)) && qs_nw lc be) && !((wd || (true && sd)) && qs_nw ld be))) := hp
      rw [Bool.true_and, Bool.true_and] at hp'
      exact hp'
end
end
section
/-! the methods over the relation qs_R -/
section
variable {f g k : Int32} {a1 a2 a3 a4 a5 a6 a7 a8 a9 a10 : Nat → Int32}
theorem qs_begin (t : Nat) (s : Bool) {post : Int32 → St2 → Prop} {c cm fv : Nat} {lc ld : qs_C} {T : Nat → qs_X} {se wc wd sc sd : Bool} {be : Nat} {oc od : Int32} (hR : qs_R c cm fv lc ld T (f, g, k, a1, a2, a3, a4, a5, a6, a7, a8, a9, a10)) (hj : qs_all T t = true) (hT : T t = (false, se, be, wc, wd, sc, sd, oc, od))
    (H : ∀ (f g k : Int32) (a1 a2 a3 a4 a5 a6 a7 a8 a9 a10 : Nat → Int32), qs_R c cm fv lc ld (qs_u T t (true, s, cm, false, false, false, false, oc, od)) (f, g, k, a1, a2, a3, a4, a5, a6, a7, a8, a9, a10) → post (nI t) (f, g, k, a1, a2, a3, a4, a5, a6, a7, a8, a9, a10)) (ht : t < 6 := by decide) :
    wpX_begin post (f, g, k, a1, a2, a3, a4, a5, a6, a7, a8, a9, a10) (qs_i s) := by
  obtain ⟨r1, r2, r3, r4, r5⟩ := hR
  unfold wpX_begin
  refine pk_loop (σ := Unit) (fun n i _ => wX_begin_2 post (qs_i s) f g k a1 a2 a3 a4 a5 a6 a7 a8 a9 a10 n (nI i)) (fun _ _ => True) t 0 () (by omega) trivial ?_ ?_
  · intro n _ _
    have hx := r5 t ht
    rw [hT] at hx
    obtain ⟨q1, q2, q3, q4, q5, q6, q7, q8, q9, q10, q11⟩ := hx
    refine pk_le 6 t (fun z => absurd z (by omega)) (fun _ => ⟨pk_in t 6 ht, ?_⟩)
    rw [nI_clamp (show t < 2 ^ 31 by omega), qs_ib]
    refine br_t q1 ⟨pk_in t 6 ht, nm_e ⟨pk_in t 6 ht, nm_e ⟨pk_in t 6 ht, nm_e ⟨pk_in t 6 ht, nm_e ⟨pk_in t 6 ht, nm_e (H _ _ _ _ _ _ _ _ _ _ _ _ _ ⟨r1, r2, r3, r4, qs_u_all (fun s' hs hn => qs_x_keep (pk_un hn) (pk_un hn) (pk_un hn) (pk_un hn) (pk_un hn) rfl rfl (r5 s' hs)) ⟨pk_us, pk_us, pk_us.trans r3, by omega, ?_, ?_, ?_, ?_, ?_, q10, q11⟩⟩)⟩⟩⟩⟩⟩
    · rw [pk_us, qs_b0]
    · rw [pk_us, qs_b0]
    · intro j _ _ _
      rw [pk_us, qs_b0]
    · rw [pk_us, qs_b0]
    · rw [pk_us, qs_b0]
  · intro n i _ hi _ hw
    have h1 : (T i).1 = true := qs_all_at hj i hi
    have hx : a5 i = qs_i (T i).1 := (qs_x_1 (r5 i (by omega))).1
    rw [h1] at hx
    refine pk_le 6 i (fun z => absurd z (by omega)) (fun _ => ⟨pk_in i 6 (by omega), ?_⟩)
    rw [nI_clamp (show i < 2 ^ 31 by omega)]
    exact br_f (by rw [hx]; decide) (nm_r (nI_1 i) (hw () trivial))
theorem qs_begin_no {post : Int32 → St2 → Prop} {p : Int32} {c cm fv : Nat} {lc ld : qs_C} {T : Nat → qs_X} (hR : qs_R c cm fv lc ld T (f, g, k, a1, a2, a3, a4, a5, a6, a7, a8, a9, a10)) (hj : qs_all T 6 = true) (hp : post (-1) (f, g, k, a1, a2, a3, a4, a5, a6, a7, a8, a9, a10)) : wpX_begin post (f, g, k, a1, a2, a3, a4, a5, a6, a7, a8, a9, a10) p := by
  obtain ⟨r1, r2, r3, r4, r5⟩ := hR
  unfold wpX_begin
  refine pk_loop (σ := Unit) (fun n i _ => wX_begin_2 post p f g k a1 a2 a3 a4 a5 a6 a7 a8 a9 a10 n (nI i)) (fun _ _ => True) 6 0 () (by omega) trivial ?_ ?_
  · intro n _ _
    exact pk_le 6 6 (fun _ => hp) (fun z => absurd z (by omega))
  · intro n i _ hi _ hw
    have h1 : (T i).1 = true := qs_all_at hj i hi
    have hx : a5 i = qs_i (T i).1 := (qs_x_1 (r5 i (by omega))).1
    rw [h1] at hx
    refine pk_le 6 i (fun z => absurd z (by omega)) (fun _ => ⟨pk_in i 6 (by omega), ?_⟩)
    rw [nI_clamp (show i < 2 ^ 31 by omega)]
    exact br_f (by rw [hx]; decide) (nm_r (nI_1 i) (hw () trivial))
theorem qs_open {post : Int32 → Prop} {c cm fv : Nat} {lc ld : qs_C} {T : Nat → qs_X} (hR : qs_R c cm fv lc ld T (f, g, k, a1, a2, a3, a4, a5, a6, a7, a8, a9, a10)) (hp : post (nI (qs_cnt T 6))) : wpX_open post (f, g, k, a1, a2, a3, a4, a5, a6, a7, a8, a9, a10) := by
  obtain ⟨r1, r2, r3, r4, r5⟩ := hR
  unfold wpX_open
  refine pk_loop (σ := Unit) (fun n i _ => wX_open_4 post f g k a1 a2 a3 a4 a5 a6 a7 a8 a9 a10 n (nI (qs_cnt T i)) (nI i)) (fun _ _ => True) 6 0 () (by omega) trivial ?_ ?_
  · intro n _ _
    exact pk_le 6 6 (fun _ => hp) (fun z => absurd z (by omega))
  · intro n i _ hi _ hw
    have hx : a5 i = qs_i (T i).1 := (qs_x_1 (r5 i hi)).1
    have hw' : wX_open_4 post f g k a1 a2 a3 a4 a5 a6 a7 a8 a9 a10 n (nI (qs_cnt T i + cond (T i).1 1 0)) (nI (i + 1)) := hw () trivial
    refine pk_le 6 i (fun z => absurd z (by omega)) (fun _ => ⟨pk_in i 6 hi, ?_⟩)
    rw [nI_clamp (show i < 2 ^ 31 by omega), hx]
    cases hb : (T i).1 with
    | false =>
      rw [hb] at hw'
      exact br_t rfl (nm_r (Int32.add_zero _) (nm_r (nI_1 i) hw'))
    | true =>
      rw [hb] at hw'
      exact br_f (by decide) (nm_r (nI_1 _) (nm_r (nI_1 i) hw'))
theorem qs_write_c (t : Nat) {x : Int32} {post : Int32 → St2 → Prop} {c cm fv : Nat} {lc ld : qs_C} {T : Nat → qs_X} {se wc wd sc sd : Bool} {be : Nat} {oc od : Int32} (hR : qs_R c cm fv lc ld T (f, g, k, a1, a2, a3, a4, a5, a6, a7, a8, a9, a10)) (hT : T t = (true, se, be, wc, wd, sc, sd, oc, od))
    (H : ∀ (f g k : Int32) (a1 a2 a3 a4 a5 a6 a7 a8 a9 a10 : Nat → Int32), qs_R c cm fv lc ld (qs_u T t (true, se, be, true, wd, sc, sd, x, od)) (f, g, k, a1, a2, a3, a4, a5, a6, a7, a8, a9, a10) → post 0 (f, g, k, a1, a2, a3, a4, a5, a6, a7, a8, a9, a10)) (ht : t < 6 := by decide) :
    wpX_write post (f, g, k, a1, a2, a3, a4, a5, a6, a7, a8, a9, a10) (nI t) (nI c) x := by
  obtain ⟨r1, r2, r3, r4, r5⟩ := hR
  have hx := r5 t ht
  rw [hT] at hx
  obtain ⟨q1, q2, q3, q4, q5, q6, q7, q8, q9, q10, q11⟩ := hx
  refine qs_write ht (by omega) q1 (H _ _ _ _ _ _ _ _ _ _ _ _ _ ⟨r1, r2, r3, r4, qs_u_all (fun s' hs hn => qs_x_keep rfl rfl rfl (pk_un hn) rfl (pk_un (by omega)) (pk_un (by omega)) (r5 s' hs)) ⟨q1, q2, q3, q4, ?_, ?_, ?_, q8, q9, ?_, ?_⟩⟩)
  · rw [pk_us, qs_or_s _ (by omega)]
  · rw [pk_us, qs_or_n _ (by omega) (by omega), q6]
  · intro j h1 h2 h3
    rw [pk_us, qs_or_n _ (by omega) h2]
    exact q7 j h1 h2 h3
  · rw [pk_us]
  · rw [pk_un (by omega), q11]
theorem qs_write_d (t : Nat) {x : Int32} {post : Int32 → St2 → Prop} {c cm fv : Nat} {lc ld : qs_C} {T : Nat → qs_X} {se wc wd sc sd : Bool} {be : Nat} {oc od : Int32} (hR : qs_R c cm fv lc ld T (f, g, k, a1, a2, a3, a4, a5, a6, a7, a8, a9, a10)) (hT : T t = (true, se, be, wc, wd, sc, sd, oc, od))
    (H : ∀ (f g k : Int32) (a1 a2 a3 a4 a5 a6 a7 a8 a9 a10 : Nat → Int32), qs_R c cm fv lc ld (qs_u T t (true, se, be, wc, true, sc, sd, oc, x)) (f, g, k, a1, a2, a3, a4, a5, a6, a7, a8, a9, a10) → post 0 (f, g, k, a1, a2, a3, a4, a5, a6, a7, a8, a9, a10)) (ht : t < 6 := by decide) :
    wpX_write post (f, g, k, a1, a2, a3, a4, a5, a6, a7, a8, a9, a10) (nI t) (nI (c + 8)) x := by
  obtain ⟨r1, r2, r3, r4, r5⟩ := hR
  have hx := r5 t ht
  rw [hT] at hx
  obtain ⟨q1, q2, q3, q4, q5, q6, q7, q8, q9, q10, q11⟩ := hx
  refine qs_write ht (by omega) q1 (H _ _ _ _ _ _ _ _ _ _ _ _ _ ⟨r1, r2, r3, r4, qs_u_all (fun s' hs hn => qs_x_keep rfl rfl rfl (pk_un hn) rfl (pk_un (by omega)) (pk_un (by omega)) (r5 s' hs)) ⟨q1, q2, q3, q4, ?_, ?_, ?_, q8, q9, ?_, ?_⟩⟩)
  · rw [pk_us, qs_or_n _ (by omega) (by omega), q5]
  · rw [pk_us, qs_or_s _ (by omega)]
  · intro j h1 h2 h3
    rw [pk_us, qs_or_n _ (by omega) h3]
    exact q7 j h1 h2 h3
  · rw [pk_un (by omega), q10]
  · rw [pk_us]
theorem qs_write_6 {p x : Int32} {post : Int32 → St2 → Prop} (hp : post (-1) (f, g, k, a1, a2, a3, a4, a5, a6, a7, a8, a9, a10)) : wpX_write post (f, g, k, a1, a2, a3, a4, a5, a6, a7, a8, a9, a10) 6 p x := by
  unfold wpX_write wpX_isOpen
  exact br_f (by decide) (br_t (by decide) (br_t rfl hp))
theorem qs_note_c {t : Nat} {post : St2 → Prop} {c cm fv : Nat} {lc ld : qs_C} {T : Nat → qs_X} {op : Bool} {se wc wd sc sd : Bool} {be : Nat} {oc od : Int32} (hR : qs_R c cm fv lc ld T (f, g, k, a1, a2, a3, a4, a5, a6, a7, a8, a9, a10)) (hT : T t = (op, se, be, wc, wd, sc, sd, oc, od))
    (H : ∀ (f g k : Int32) (a1 a2 a3 a4 a5 a6 a7 a8 a9 a10 : Nat → Int32), qs_R c cm fv lc ld (qs_u T t (op, se, be, wc, wd, (sc || !wc), sd, oc, od)) (f, g, k, a1, a2, a3, a4, a5, a6, a7, a8, a9, a10) → post (f, g, k, a1, a2, a3, a4, a5, a6, a7, a8, a9, a10)) (ht : t < 6) :
    wpX_note post (f, g, k, a1, a2, a3, a4, a5, a6, a7, a8, a9, a10) (nI t) (nI c) := by
  obtain ⟨r1, r2, r3, r4, r5⟩ := hR
  have hx := r5 t ht
  rw [hT] at hx
  obtain ⟨q1, q2, q3, q4, q5, q6, q7, q8, q9, q10, q11⟩ := hx
  refine qs_note ht (by omega) (fun b9 h1 h2 h3 => H _ _ _ _ _ _ _ _ _ _ _ _ _ ⟨r1, r2, r3, r4, qs_u_all (fun s' hs hn => qs_x_keep rfl rfl rfl rfl (h1 s' hn) rfl rfl (r5 s' hs)) ⟨q1, q2, q3, q4, q5, q6, q7, ?_, ?_, q10, q11⟩⟩)
  · rw [h2, q8, q5]
  · rw [h3 _ (by omega), q9]
theorem qs_note_d {t : Nat} {post : St2 → Prop} {c cm fv : Nat} {lc ld : qs_C} {T : Nat → qs_X} {op : Bool} {se wc wd sc sd : Bool} {be : Nat} {oc od : Int32} (hR : qs_R c cm fv lc ld T (f, g, k, a1, a2, a3, a4, a5, a6, a7, a8, a9, a10)) (hT : T t = (op, se, be, wc, wd, sc, sd, oc, od))
    (H : ∀ (f g k : Int32) (a1 a2 a3 a4 a5 a6 a7 a8 a9 a10 : Nat → Int32), qs_R c cm fv lc ld (qs_u T t (op, se, be, wc, wd, sc, (sd || !wd), oc, od)) (f, g, k, a1, a2, a3, a4, a5, a6, a7, a8, a9, a10) → post (f, g, k, a1, a2, a3, a4, a5, a6, a7, a8, a9, a10)) (ht : t < 6) :
    wpX_note post (f, g, k, a1, a2, a3, a4, a5, a6, a7, a8, a9, a10) (nI t) (nI (c + 8)) := by
  obtain ⟨r1, r2, r3, r4, r5⟩ := hR
  have hx := r5 t ht
  rw [hT] at hx
  obtain ⟨q1, q2, q3, q4, q5, q6, q7, q8, q9, q10, q11⟩ := hx
  refine qs_note ht (by omega) (fun b9 h1 h2 h3 => H _ _ _ _ _ _ _ _ _ _ _ _ _ ⟨r1, r2, r3, r4, qs_u_all (fun s' hs hn => qs_x_keep rfl rfl rfl rfl (h1 s' hn) rfl rfl (r5 s' hs)) ⟨q1, q2, q3, q4, q5, q6, q7, ?_, ?_, q10, q11⟩⟩)
  · rw [h3 _ (by omega), q8]
  · rw [h2, q9, q6]
theorem qs_note_o {t j : Nat} {post : St2 → Prop} {c cm fv : Nat} {lc ld : qs_C} {T : Nat → qs_X} (hR : qs_R c cm fv lc ld T (f, g, k, a1, a2, a3, a4, a5, a6, a7, a8, a9, a10)) (hj : j < 16) (h1 : j ≠ c) (h2 : j ≠ c + 8)
    (H : ∀ (f g k : Int32) (a1 a2 a3 a4 a5 a6 a7 a8 a9 a10 : Nat → Int32), qs_R c cm fv lc ld T (f, g, k, a1, a2, a3, a4, a5, a6, a7, a8, a9, a10) → post (f, g, k, a1, a2, a3, a4, a5, a6, a7, a8, a9, a10)) (ht : t < 6) :
    wpX_note post (f, g, k, a1, a2, a3, a4, a5, a6, a7, a8, a9, a10) (nI t) (nI j) := by
  obtain ⟨r1, r2, r3, r4, r5⟩ := hR
  refine qs_note ht hj (fun b9 g1 g2 g3 => H _ _ _ _ _ _ _ _ _ _ _ _ _ ⟨r1, r2, r3, r4, fun s hs => ?_⟩)
  by_cases e : s = t
  · rw [e]
    have hx := r5 t ht
    generalize T t = X at hx
    obtain ⟨op, se, be, wc, wd, sc, sd, oc, od⟩ := X
    obtain ⟨q1, q2, q3, q4, q5, q6, q7, q8, q9, q10, q11⟩ := hx
    exact ⟨q1, q2, q3, q4, q5, q6, q7, (g3 _ (Ne.symm h1)).trans q8, (g3 _ (Ne.symm h2)).trans q9, q10, q11⟩
  · exact qs_x_keep rfl rfl rfl rfl (g1 s e) rfl rfl (r5 s hs)
theorem qs_vis_c {t : Nat} {post : Int32 → Prop} {c cm fv : Nat} {lc ld : qs_C} {T : Nat → qs_X} {op : Bool} {se wc wd sc sd : Bool} {be : Nat} {oc od : Int32} (hR : qs_R c cm fv lc ld T (f, g, k, a1, a2, a3, a4, a5, a6, a7, a8, a9, a10)) (hT : T t = (op, se, be, wc, wd, sc, sd, oc, od)) (hp : post (cond wc oc (qs_va lc be))) (ht : t < 6) :
    wpX_visible post (f, g, k, a1, a2, a3, a4, a5, a6, a7, a8, a9, a10) (nI t) (nI c) := by
  obtain ⟨r1, r2, r3, r4, r5⟩ := hR
  have hx := r5 t ht
  rw [hT] at hx
  obtain ⟨q1, q2, q3, q4, q5, q6, q7, q8, q9, q10, q11⟩ := hx
  obtain ⟨p1, p2, p3, p4, p5, p6, p7, p8, p9⟩ := r4
  refine qs_visible (l := lc) (fv := fv) (by omega) ht (by omega) q3 q4 p5 p7 ?_
  rw [q5, q10]
  exact hp
theorem qs_vis_d {t : Nat} {post : Int32 → Prop} {c cm fv : Nat} {lc ld : qs_C} {T : Nat → qs_X} {op : Bool} {se wc wd sc sd : Bool} {be : Nat} {oc od : Int32} (hR : qs_R c cm fv lc ld T (f, g, k, a1, a2, a3, a4, a5, a6, a7, a8, a9, a10)) (hT : T t = (op, se, be, wc, wd, sc, sd, oc, od)) (hp : post (cond wd od (qs_va ld be))) (ht : t < 6) :
    wpX_visible post (f, g, k, a1, a2, a3, a4, a5, a6, a7, a8, a9, a10) (nI t) (nI (c + 8)) := by
  obtain ⟨r1, r2, r3, r4, r5⟩ := hR
  have hx := r5 t ht
  rw [hT] at hx
  obtain ⟨q1, q2, q3, q4, q5, q6, q7, q8, q9, q10, q11⟩ := hx
  obtain ⟨p1, p2, p3, p4, p5, p6, p7, p8, p9⟩ := r4
  refine qs_visible (l := ld) (fv := fv) (by omega) ht (by omega) q3 q4 p6 p8 ?_
  rw [q6, q11]
  exact hp
theorem qs_vis_o {t j : Nat} {post : Int32 → Prop} {c cm fv : Nat} {lc ld : qs_C} {T : Nat → qs_X} (hR : qs_R c cm fv lc ld T (f, g, k, a1, a2, a3, a4, a5, a6, a7, a8, a9, a10)) (hj : j < 16) (h1 : j ≠ c) (h2 : j ≠ c + 8) (hp : post 0) (ht : t < 6) :
    wpX_visible post (f, g, k, a1, a2, a3, a4, a5, a6, a7, a8, a9, a10) (nI t) (nI j) := by
  obtain ⟨r1, r2, r3, r4, r5⟩ := hR
  have hx := r5 t ht
  generalize T t = X at hx
  obtain ⟨op, se, be, wc, wd, sc, sd, oc, od⟩ := X
  obtain ⟨q1, q2, q3, q4, q5, q6, q7, q8, q9, q10, q11⟩ := hx
  obtain ⟨p1, p2, p3, p4, p5, p6, p7, p8, p9⟩ := r4
  refine qs_visible (l := []) (fv := fv) (by omega) ht hj q3 q4 (p9 j hj h1 h2) (by decide) ?_
  rw [q7 j hj h1 h2]
  exact hp
theorem qs_live {t : Nat} {post : Int32 → Prop} {c cm fv : Nat} {lc ld : qs_C} {T : Nat → qs_X} {op : Bool} {se wc wd sc sd : Bool} {be : Nat} {oc od : Int32} (hR : qs_R c cm fv lc ld T (f, g, k, a1, a2, a3, a4, a5, a6, a7, a8, a9, a10)) (hT : T t = (op, se, be, wc, wd, sc, sd, oc, od)) (hp : post (qs_i op)) (ht : t < 6) : wpX_isOpen post (f, g, k, a1, a2, a3, a4, a5, a6, a7, a8, a9, a10) (nI t) := by
  obtain ⟨r1, r2, r3, r4, r5⟩ := hR
  have hx := r5 t ht
  rw [hT] at hx
  exact qs_isOpen ht (qs_x_1 hx).1 hp
theorem qs_read_c (t : Nat) {post : Int32 → St2 → Prop} {c cm fv : Nat} {lc ld : qs_C} {T : Nat → qs_X} {se wc wd sc sd : Bool} {be : Nat} {oc od : Int32} (hR : qs_R c cm fv lc ld T (f, g, k, a1, a2, a3, a4, a5, a6, a7, a8, a9, a10)) (hT : T t = (true, se, be, wc, wd, sc, sd, oc, od))
    (H : ∀ (f g k : Int32) (a1 a2 a3 a4 a5 a6 a7 a8 a9 a10 : Nat → Int32), qs_R c cm fv lc ld (qs_u T t (true, se, be, wc, wd, (sc || !wc), sd, oc, od)) (f, g, k, a1, a2, a3, a4, a5, a6, a7, a8, a9, a10) → post (cond wc oc (qs_va lc be)) (f, g, k, a1, a2, a3, a4, a5, a6, a7, a8, a9, a10)) (ht : t < 6 := by decide) :
    wpX_read post (f, g, k, a1, a2, a3, a4, a5, a6, a7, a8, a9, a10) (nI t) (nI c) := by
  have hc : c < 8 := qs_R_c hR
  unfold wpX_read
  refine qs_live hR hT (br_f (by decide) (qs_isCell (by omega) (br_f (by decide) (qs_note_c hR hT (fun f g k a1 a2 a3 a4 a5 a6 a7 a8 a9 a10 h => ?_) ht)))) ht
  exact qs_vis_c h qs_u_s (H _ _ _ _ _ _ _ _ _ _ _ _ _ h) ht
theorem qs_read_d (t : Nat) {post : Int32 → St2 → Prop} {c cm fv : Nat} {lc ld : qs_C} {T : Nat → qs_X} {se wc wd sc sd : Bool} {be : Nat} {oc od : Int32} (hR : qs_R c cm fv lc ld T (f, g, k, a1, a2, a3, a4, a5, a6, a7, a8, a9, a10)) (hT : T t = (true, se, be, wc, wd, sc, sd, oc, od))
    (H : ∀ (f g k : Int32) (a1 a2 a3 a4 a5 a6 a7 a8 a9 a10 : Nat → Int32), qs_R c cm fv lc ld (qs_u T t (true, se, be, wc, wd, sc, (sd || !wd), oc, od)) (f, g, k, a1, a2, a3, a4, a5, a6, a7, a8, a9, a10) → post (cond wd od (qs_va ld be)) (f, g, k, a1, a2, a3, a4, a5, a6, a7, a8, a9, a10)) (ht : t < 6 := by decide) :
    wpX_read post (f, g, k, a1, a2, a3, a4, a5, a6, a7, a8, a9, a10) (nI t) (nI (c + 8)) := by
  have hc : c < 8 := qs_R_c hR
  unfold wpX_read
  refine qs_live hR hT (br_f (by decide) (qs_isCell (by omega) (br_f (by decide) (qs_note_d hR hT (fun f g k a1 a2 a3 a4 a5 a6 a7 a8 a9 a10 h => ?_) ht)))) ht
  exact qs_vis_d h qs_u_s (H _ _ _ _ _ _ _ _ _ _ _ _ _ h) ht
theorem qs_read_o (t : Nat) {j : Nat} {post : Int32 → St2 → Prop} {c cm fv : Nat} {lc ld : qs_C} {T : Nat → qs_X} {se wc wd sc sd : Bool} {be : Nat} {oc od : Int32} (hR : qs_R c cm fv lc ld T (f, g, k, a1, a2, a3, a4, a5, a6, a7, a8, a9, a10)) (hT : T t = (true, se, be, wc, wd, sc, sd, oc, od)) (hj : j < 16) (h1 : j ≠ c) (h2 : j ≠ c + 8)
    (H : ∀ (f g k : Int32) (a1 a2 a3 a4 a5 a6 a7 a8 a9 a10 : Nat → Int32), qs_R c cm fv lc ld T (f, g, k, a1, a2, a3, a4, a5, a6, a7, a8, a9, a10) → post 0 (f, g, k, a1, a2, a3, a4, a5, a6, a7, a8, a9, a10)) (ht : t < 6 := by decide) :
    wpX_read post (f, g, k, a1, a2, a3, a4, a5, a6, a7, a8, a9, a10) (nI t) (nI j) := by
  unfold wpX_read
  refine qs_live hR hT (br_f (by decide) (qs_isCell hj (br_f (by decide) (qs_note_o hR hj h1 h2 (fun f g k a1 a2 a3 a4 a5 a6 a7 a8 a9 a10 h => ?_) ht)))) ht
  exact qs_vis_o h hj h1 h2 (H _ _ _ _ _ _ _ _ _ _ _ _ _ h) ht
theorem qs_read_16 (t : Nat) {post : Int32 → St2 → Prop} {c cm fv : Nat} {lc ld : qs_C} {T : Nat → qs_X} {se wc wd sc sd : Bool} {be : Nat} {oc od : Int32} (hR : qs_R c cm fv lc ld T (f, g, k, a1, a2, a3, a4, a5, a6, a7, a8, a9, a10)) (hT : T t = (true, se, be, wc, wd, sc, sd, oc, od)) (hp : post 0 (f, g, k, a1, a2, a3, a4, a5, a6, a7, a8, a9, a10)) (ht : t < 6 := by decide) : wpX_read post (f, g, k, a1, a2, a3, a4, a5, a6, a7, a8, a9, a10) (nI t) 16 := by
  unfold wpX_read
  refine qs_live hR hT (br_f (by decide) ?_) ht
  unfold wpX_isCell
  exact br_f (by decide) (br_t (by decide) (br_t rfl hp))
theorem qs_add_c (t : Nat) {x : Int32} {post : Int32 → St2 → Prop} {c cm fv : Nat} {lc ld : qs_C} {T : Nat → qs_X} {se wc wd sc sd : Bool} {be : Nat} {oc od : Int32} (hR : qs_R c cm fv lc ld T (f, g, k, a1, a2, a3, a4, a5, a6, a7, a8, a9, a10)) (hT : T t = (true, se, be, wc, wd, sc, sd, oc, od))
    (H : ∀ (f g k : Int32) (a1 a2 a3 a4 a5 a6 a7 a8 a9 a10 : Nat → Int32), qs_R c cm fv lc ld (qs_u (qs_u T t (true, se, be, wc, wd, (sc || !wc), sd, oc, od)) t (true, se, be, true, wd, (sc || !wc), sd, cond wc oc (qs_va lc be) + x, od)) (f, g, k, a1, a2, a3, a4, a5, a6, a7, a8, a9, a10) → post (cond wc oc (qs_va lc be) + x) (f, g, k, a1, a2, a3, a4, a5, a6, a7, a8, a9, a10)) (ht : t < 6 := by decide) :
    wpX_add post (f, g, k, a1, a2, a3, a4, a5, a6, a7, a8, a9, a10) (nI t) (nI c) x := by
  have hc : c < 8 := qs_R_c hR
  unfold wpX_add
  refine qs_live hR hT (br_f (by decide) (qs_isCell (by omega) (br_f (by decide) (qs_note_c hR hT (fun f g k a1 a2 a3 a4 a5 a6 a7 a8 a9 a10 h => ?_) ht)))) ht
  refine qs_vis_c h qs_u_s (nm_e ?_) ht
  exact qs_write_c t h qs_u_s (fun f g k a1 a2 a3 a4 a5 a6 a7 a8 a9 a10 h2 => H _ _ _ _ _ _ _ _ _ _ _ _ _ h2) ht
theorem qs_add_m1 (t : Nat) {x : Int32} {post : Int32 → St2 → Prop} {c cm fv : Nat} {lc ld : qs_C} {T : Nat → qs_X} {se wc wd sc sd : Bool} {be : Nat} {oc od : Int32} (hR : qs_R c cm fv lc ld T (f, g, k, a1, a2, a3, a4, a5, a6, a7, a8, a9, a10)) (hT : T t = (true, se, be, wc, wd, sc, sd, oc, od)) (hp : post 0 (f, g, k, a1, a2, a3, a4, a5, a6, a7, a8, a9, a10)) (ht : t < 6 := by decide) : wpX_add post (f, g, k, a1, a2, a3, a4, a5, a6, a7, a8, a9, a10) (nI t) (-1) x := by
  unfold wpX_add
  refine qs_live hR hT (br_f (by decide) ?_) ht
  unfold wpX_isCell
  exact br_t (by decide) (br_t rfl hp)
theorem qs_sum (t : Nat) {lo hi : Int32} {post : Int32 → Prop} {c cm fv : Nat} {lc ld : qs_C} {T : Nat → qs_X} {se wc wd sc sd : Bool} {be : Nat} {oc od : Int32} (hR : qs_R c cm fv lc ld T (f, g, k, a1, a2, a3, a4, a5, a6, a7, a8, a9, a10)) (hT : T t = (true, se, be, wc, wd, sc, sd, oc, od))
    (hp : post (cond (qs_in lo hi c) (cond wc oc (qs_va lc be)) 0 + cond (qs_in lo hi (c + 8)) (cond wd od (qs_va ld be)) 0)) (ht : t < 6 := by decide) :
    wpX_sum post (f, g, k, a1, a2, a3, a4, a5, a6, a7, a8, a9, a10) (nI t) lo hi := by
  have hc : c < 8 := qs_R_c hR
  have hw : ∃ w : Nat → Int32, w c = cond wc oc (qs_va lc be) ∧ w (c + 8) = cond wd od (qs_va ld be) ∧ ∀ j, j ≠ c → j ≠ c + 8 → w j = 0 :=
    ⟨fun j => if j = c then cond wc oc (qs_va lc be) else if j = c + 8 then cond wd od (qs_va ld be) else 0, if_pos rfl, (if_neg (by omega)).trans (if_pos rfl), fun j h1 h2 => (if_neg h1).trans (if_neg h2)⟩
  obtain ⟨w, w1, w2, w3⟩ := hw
  rw [← w1, ← w2, ← qs_S_16 hc (fun j _ h1 h2 => w3 j h1 h2)] at hp
  unfold wpX_sum
  refine qs_live hR hT (br_f (by decide) ?_) ht
  refine pk_loop (σ := Unit) (fun n i _ => wX_sum_16 post (nI t) lo hi f g k a1 a2 a3 a4 a5 a6 a7 a8 a9 a10 n (qs_S lo hi w i) (nI i)) (fun _ _ => True) 16 0 () (by omega) trivial ?_ ?_
  · intro n _ _
    exact pk_le 16 16 (fun _ => hp) (fun z => absurd z (by omega))
  · intro n i _ hi' _ hw
    have hw' : wX_sum_16 post (nI t) lo hi f g k a1 a2 a3 a4 a5 a6 a7 a8 a9 a10 n (qs_S lo hi w i + cond (!decide (nI i < lo) && !decide (hi < nI i)) (w i) 0) (nI (i + 1)) := hw () trivial
    refine pk_le 16 i (fun z => absurd z (by omega)) (fun _ => br_c (fun z => nm_r (nI_1 i) ?_) (fun z => br_c (fun y => nm_r (nI_1 i) ?_) (fun y => ?_)))
    · rw [decide_eq_true z, Bool.not_true, Bool.false_and] at hw'
      rw [← Int32.add_zero (qs_S lo hi w i)]
      exact hw'
    · rw [decide_eq_true y, Bool.not_true, Bool.and_false] at hw'
      rw [← Int32.add_zero (qs_S lo hi w i)]
      exact hw'
    · rw [decide_eq_false z, decide_eq_false y] at hw'
      have fin : ∀ x, x = w i → ∀ x4 : Int32, x4 = qs_S lo hi w i + x → ∀ x5 : Int32, x5 = nI i + 1 → wX_sum_16 post (nI t) lo hi f g k a1 a2 a3 a4 a5 a6 a7 a8 a9 a10 n x4 x5 := by
        intro x ex x4 e4 x5 e5
        rw [e4, e5, nI_1, ex]
        exact hw'
      by_cases e : i = c
      · rw [e] at fin ⊢
        exact qs_vis_c hR hT (fin _ w1.symm) ht
      · by_cases e2 : i = c + 8
        · rw [e2] at fin ⊢
          exact qs_vis_d hR hT (fin _ w2.symm) ht
        · exact qs_vis_o hR hi' e e2 (fin _ (w3 i e e2).symm) ht
theorem qs_might (t : Nat) {post : Int32 → Prop} {c cm fv : Nat} {lc ld : qs_C} {T : Nat → qs_X} {se wc wd sc sd : Bool} {be : Nat} {oc od : Int32} (hR : qs_R c cm fv lc ld T (f, g, k, a1, a2, a3, a4, a5, a6, a7, a8, a9, a10)) (hT : T t = (true, se, be, wc, wd, sc, sd, oc, od)) (hp : post (qs_i (qs_mc lc ld se be wc wd sc sd))) (ht : t < 6 := by decide) : wpX_might post (f, g, k, a1, a2, a3, a4, a5, a6, a7, a8, a9, a10) (nI t) := by
  unfold wpX_might
  refine qs_live hR hT (br_f (by decide) ?_) ht
  obtain ⟨r1, r2, r3, r4, r5⟩ := hR
  have hx := r5 t ht
  rw [hT] at hx
  refine qs_mayCommit r1 ht r4 hx ?_
  cases hm : qs_mc lc ld se be wc wd sc sd with
  | true =>
    rw [hm] at hp
    exact br_f (by decide) hp
  | false =>
    rw [hm] at hp
    exact br_t rfl hp
theorem qs_comm_c {post : Int32 → Prop} {c cm fv : Nat} {lc ld : qs_C} {T : Nat → qs_X} (hR : qs_R c cm fv lc ld T (f, g, k, a1, a2, a3, a4, a5, a6, a7, a8, a9, a10)) (hp : post (qs_va lc cm)) : wpX_committed post (f, g, k, a1, a2, a3, a4, a5, a6, a7, a8, a9, a10) (nI c) := by
  obtain ⟨r1, r2, r3, r4, r5⟩ := hR
  obtain ⟨p1, p2, p3, p4, p5, p6, p7, p8, p9⟩ := r4
  unfold wpX_committed
  refine qs_isCell (by omega) (br_f (by decide) ?_)
  rw [r3]
  exact qs_versionAt (l := lc) (fv := fv) (by omega) (by omega) (by omega) p5 p7 hp
theorem qs_comm_d {post : Int32 → Prop} {c cm fv : Nat} {lc ld : qs_C} {T : Nat → qs_X} (hR : qs_R c cm fv lc ld T (f, g, k, a1, a2, a3, a4, a5, a6, a7, a8, a9, a10)) (hp : post (qs_va ld cm)) : wpX_committed post (f, g, k, a1, a2, a3, a4, a5, a6, a7, a8, a9, a10) (nI (c + 8)) := by
  obtain ⟨r1, r2, r3, r4, r5⟩ := hR
  obtain ⟨p1, p2, p3, p4, p5, p6, p7, p8, p9⟩ := r4
  unfold wpX_committed
  refine qs_isCell (by omega) (br_f (by decide) ?_)
  rw [r3]
  exact qs_versionAt (l := ld) (fv := fv) (by omega) (by omega) (by omega) p6 p8 hp
theorem qs_R_shut {t : Nat} {c cm fv : Nat} {lc ld : qs_C} {T : Nat → qs_X} {op : Bool} {se wc wd sc sd : Bool} {be : Nat} {oc od : Int32} (hR : qs_R c cm fv lc ld T (f, g, k, a1, a2, a3, a4, a5, a6, a7, a8, a9, a10)) (hT : T t = (op, se, be, wc, wd, sc, sd, oc, od)) (ht : t < 6) : qs_R c cm fv lc ld (qs_u T t (false, se, be, wc, wd, sc, sd, oc, od)) (f, g, k, a1, a2, a3, a4, upd a5 t 0, a6, a7, a8, a9, a10) := by
  obtain ⟨r1, r2, r3, r4, r5⟩ := hR
  have hx := r5 t ht
  rw [hT] at hx
  obtain ⟨q1, q2⟩ := hx
  exact ⟨r1, r2, r3, r4, qs_u_all (fun s' hs hn => qs_x_keep (pk_un hn) rfl rfl rfl rfl rfl rfl (r5 s' hs)) ⟨pk_us, q2⟩⟩
theorem qs_abort (t : Nat) {post : Int32 → St2 → Prop} {c cm fv : Nat} {lc ld : qs_C} {T : Nat → qs_X} {se wc wd sc sd : Bool} {be : Nat} {oc od : Int32} (hR : qs_R c cm fv lc ld T (f, g, k, a1, a2, a3, a4, a5, a6, a7, a8, a9, a10)) (hT : T t = (true, se, be, wc, wd, sc, sd, oc, od))
    (H : ∀ (f g k : Int32) (a1 a2 a3 a4 a5 a6 a7 a8 a9 a10 : Nat → Int32), qs_R c cm fv lc ld (qs_u T t (false, se, be, wc, wd, sc, sd, oc, od)) (f, g, k, a1, a2, a3, a4, a5, a6, a7, a8, a9, a10) → post 0 (f, g, k, a1, a2, a3, a4, a5, a6, a7, a8, a9, a10)) (ht : t < 6 := by decide) : wpX_abort post (f, g, k, a1, a2, a3, a4, a5, a6, a7, a8, a9, a10) (nI t) := by
  unfold wpX_abort
  refine qs_live hR hT (br_f (by decide) ⟨pk_in t 6 ht, ?_⟩) ht
  rw [nI_clamp (show t < 2 ^ 31 by omega)]
  exact nm_e (H _ _ _ _ _ _ _ _ _ _ _ _ _ (qs_R_shut hR hT ht))
theorem qs_abort_no (t : Nat) {post : Int32 → St2 → Prop} {c cm fv : Nat} {lc ld : qs_C} {T : Nat → qs_X} {se wc wd sc sd : Bool} {be : Nat} {oc od : Int32} (hR : qs_R c cm fv lc ld T (f, g, k, a1, a2, a3, a4, a5, a6, a7, a8, a9, a10)) (hT : T t = (false, se, be, wc, wd, sc, sd, oc, od)) (hp : post (-1) (f, g, k, a1, a2, a3, a4, a5, a6, a7, a8, a9, a10)) (ht : t < 6 := by decide) : wpX_abort post (f, g, k, a1, a2, a3, a4, a5, a6, a7, a8, a9, a10) (nI t) := by
  unfold wpX_abort
  exact qs_live hR hT (br_t rfl hp) ht
end
end
section
/-! install, commit, tidy, the constructor -/
section
variable {f g k : Int32} {a1 a2 a3 a4 a5 a6 a7 a8 a9 a10 : Nat → Int32}
theorem qs_inst_skip {post : St2 → Prop} {t : Nat} {q : Int32} (ht : t < 6) : ∀ (m n i : Nat), i + m ≤ 16 → (∀ j, i ≤ j → j < i + m → qs_b (a8 t) j = false) → wX_install_25 post (nI t) q n (nI (i + m)) f g a1 a2 a3 a4 a5 a6 a7 a8 a9 a10 → wX_install_25 post (nI t) q (n + m) (nI i) f g a1 a2 a3 a4 a5 a6 a7 a8 a9 a10 := by
  intro m
  induction m with
  | zero =>
    intro n i _ _ h
    exact h
  | succ m ih =>
    intro n i hi hb h
    have h' : wX_install_25 post (nI t) q n (nI (i + 1 + m)) f g a1 a2 a3 a4 a5 a6 a7 a8 a9 a10 := by
      rw [show i + 1 + m = i + (m + 1) by omega]
      exact h
    have h2 := ih n (i + 1) (by omega) (fun j h1 h2 => hb j (by omega) (by omega)) h'
    show wX_install_25 post (nI t) q (n + m + 1) (nI i) f g a1 a2 a3 a4 a5 a6 a7 a8 a9 a10
    refine pk_le 16 i (fun z => absurd z (by omega)) (fun _ => ⟨pk_in t 6 ht, br_t ?_ (nm_r (nI_1 i) h2)⟩)
    rw [nI_clamp (show t < 2 ^ 31 by omega)]
    exact (qs_bit _ (by omega)).mpr (hb i (by omega) (by omega))
theorem qs_inst_put {post : St2 → Prop} {t j n fv : Nat} {q x : Int32} (ht : t < 6) (hj : j < 16) (hf : f = nI fv) (hfv : fv < 144) (hb : qs_b (a8 t) j = true) (hx : a10 (16 * t + j) = x)
    (h : wX_install_25 post (nI t) q n (nI (j + 1)) (a3 fv) (g - 1) (upd a1 fv x) (upd a2 fv q) (upd a3 fv (a4 j)) (upd a4 j f) a5 a6 a7 a8 a9 a10) :
    wX_install_25 post (nI t) q (n + 1) (nI j) f g a1 a2 a3 a4 a5 a6 a7 a8 a9 a10 := by
  subst hx
  subst hf
  refine pk_le 16 j (fun z => absurd z (by omega)) (fun _ => ⟨pk_in t 6 ht, ?_⟩)
  rw [nI_clamp (show t < 2 ^ 31 by omega), nI_clamp (show j < 2 ^ 31 by omega), nI_clamp (show fv < 2 ^ 31 by omega), qs_16, nI_clamp (show 16 * t + j < 2 ^ 31 by omega)]
  exact br_f (qs_bit_t (by omega) hb) ⟨pk_in fv 144 hfv, nm_e (nm_e ⟨pk_in (16 * t + j) 96 (by omega), pk_in fv 144 hfv, nm_e ⟨pk_in fv 144 hfv, nm_e ⟨pk_in j 16 hj, pk_in fv 144 hfv, nm_e ⟨pk_in j 16 hj, nm_e (nm_r (nI_1 j) h)⟩⟩⟩⟩)⟩
theorem qs_K_put_c {c fv q : Nat} {lc ld : qs_C} {x : Int32} (h : qs_K c fv lc ld f g a1 a2 a3 a4) (hq : q < 1000) (hf : fv < 110) (hl : lc.length ≤ 90) : qs_K c (fv + 1) ((fv, q, x) :: lc) ld (a3 fv) (g - 1) (upd a1 fv x) (upd a2 fv (nI q)) (upd a3 fv (a4 c)) (upd a4 c f) := by
  obtain ⟨p1, p2, p3, p4, p5, p6, p7, p8, p9⟩ := h
  have up : ∀ (l : qs_C) (p : Int32), qs_ch fv a1 a2 a3 l p → qs_ch (fv + 1) (upd a1 fv x) (upd a2 fv (nI q)) (upd a3 fv (a4 c)) l p := qs_ch_up (by omega) (fun v hv => pk_un (by omega)) (fun v hv => pk_un (by omega)) (fun v hv => pk_un (by omega))
  have new : qs_ch (fv + 1) (upd a1 fv x) (upd a2 fv (nI q)) (upd a3 fv (a4 c)) ((fv, q, x) :: lc) (upd a4 c f c) := by
    refine ⟨pk_us.trans p2, Nat.lt_succ_self fv, hq, pk_us, pk_us, ?_⟩
    show qs_ch (fv + 1) (upd a1 fv x) (upd a2 fv (nI q)) (upd a3 fv (a4 c)) lc (upd a3 fv (a4 c) fv)
    rw [pk_us]
    exact up _ _ p5
  have hlen : ((fv, q, x) :: lc).length ≤ 100 := by
    show lc.length + 1 ≤ 100
    omega
  refine ⟨by omega, p4 fv (by omega) (by omega), ?_, ?_, new, ?_, hlen, p8, ?_⟩
  · rw [p3, show 144 - fv = 144 - (fv + 1) + 1 by omega, nI_pred]
  · intro v h1 h2
    rw [pk_un (by omega)]
    exact p4 v (by omega) h2
  · rw [pk_un (by omega)]
    exact up _ _ p6
  · intro j h1 h2 h3
    rw [pk_un h2]
    exact p9 j h1 h2 h3
theorem qs_K_put_d {c fv q : Nat} {lc ld : qs_C} {x : Int32} (h : qs_K c fv lc ld f g a1 a2 a3 a4) (hq : q < 1000) (hf : fv < 110) (hl : ld.length ≤ 90) : qs_K c (fv + 1) lc ((fv, q, x) :: ld) (a3 fv) (g - 1) (upd a1 fv x) (upd a2 fv (nI q)) (upd a3 fv (a4 (c + 8))) (upd a4 (c + 8) f) := by
  obtain ⟨p1, p2, p3, p4, p5, p6, p7, p8, p9⟩ := h
  have up : ∀ (l : qs_C) (p : Int32), qs_ch fv a1 a2 a3 l p → qs_ch (fv + 1) (upd a1 fv x) (upd a2 fv (nI q)) (upd a3 fv (a4 (c + 8))) l p := qs_ch_up (by omega) (fun v hv => pk_un (by omega)) (fun v hv => pk_un (by omega)) (fun v hv => pk_un (by omega))
  have new : qs_ch (fv + 1) (upd a1 fv x) (upd a2 fv (nI q)) (upd a3 fv (a4 (c + 8))) ((fv, q, x) :: ld) (upd a4 (c + 8) f (c + 8)) := by
    refine ⟨pk_us.trans p2, Nat.lt_succ_self fv, hq, pk_us, pk_us, ?_⟩
    show qs_ch (fv + 1) (upd a1 fv x) (upd a2 fv (nI q)) (upd a3 fv (a4 (c + 8))) ld (upd a3 fv (a4 (c + 8)) fv)
    rw [pk_us]
    exact up _ _ p6
  have hlen : ((fv, q, x) :: ld).length ≤ 100 := by
    show ld.length + 1 ≤ 100
    omega
  refine ⟨by omega, p4 fv (by omega) (by omega), ?_, ?_, ?_, new, p7, hlen, ?_⟩
  · rw [p3, show 144 - fv = 144 - (fv + 1) + 1 by omega, nI_pred]
  · intro v h1 h2
    rw [pk_un (by omega)]
    exact p4 v (by omega) h2
  · rw [pk_un (by omega)]
    exact up _ _ p5
  · intro j h1 h2 h3
    rw [pk_un h3]
    exact p9 j h1 h2 h3
theorem qs_install {t : Nat} {post : St2 → Prop} {c cm fv : Nat} {lc ld : qs_C} {T : Nat → qs_X} {op : Bool} {se wc wd sc sd : Bool} {be : Nat} {oc od : Int32} (hR : qs_R c cm fv lc ld T (f, g, k, a1, a2, a3, a4, a5, a6, a7, a8, a9, a10)) (hT : T t = (op, se, be, wc, wd, sc, sd, oc, od)) (hg : (Nat.ble cm 800 && (Nat.ble fv 100 && (Nat.ble lc.length 90 && Nat.ble ld.length 90))) = true) (ht : t < 6)
    (H : ∀ (f g k : Int32) (a1 a2 a3 a4 a5 a6 a7 a8 a9 a10 : Nat → Int32), qs_R c (cm + 1) (fv + cond wc 1 0 + cond wd 1 0) (cond wc ((fv, cm + 1, oc) :: lc) lc) (cond wd ((fv + cond wc 1 0, cm + 1, od) :: ld) ld) T (f, g, k, a1, a2, a3, a4, a5, a6, a7, a8, a9, a10) → post (f, g, k, a1, a2, a3, a4, a5, a6, a7, a8, a9, a10)) : wpX_install post (f, g, k, a1, a2, a3, a4, a5, a6, a7, a8, a9, a10) (nI t) := by
  obtain ⟨r1, r2, r3, r4, r5⟩ := hR
  have hx := r5 t ht
  rw [hT] at hx
  obtain ⟨q1, q2, q3, q4, q5, q6, q7, q8, q9, q10, q11⟩ := hx
  have g1 := qs_and hg
  have g2 := qs_and g1.2
  have g3 := qs_and g2.2
  have b1 := qs_ble g1.1
  have b2 := qs_ble g2.1
  have b3 := qs_ble g3.1
  have b4 := qs_ble g3.2
  have hg' : g = nI (144 - fv) := r4.2.2.1
  unfold wpX_install
  refine br_t (by rw [hg']; exact nI_le (a := 16) (by omega) (by omega)) ?_
  unfold wX_install_13
  refine nm_r (e' := nI (cm + 1)) (by rw [r3, nI_1]) ?_
  have s3 : ∀ (f g : Int32) (a1 a2 a3 a4 : Nat → Int32), qs_K c (fv + cond wc 1 0 + cond wd 1 0) (cond wc ((fv, cm + 1, oc) :: lc) lc) (cond wd ((fv + cond wc 1 0, cm + 1, od) :: ld) ld) f g a1 a2 a3 a4 → wX_install_25 post (nI t) (nI (cm + 1)) (1 + (7 - c)) (nI (c + 8 + 1)) f g a1 a2 a3 a4 a5 a6 a7 a8 a9 a10 := by
    intro f g a1 a2 a3 a4 hK
    refine qs_inst_skip ht (7 - c) 1 (c + 8 + 1) (by omega) (fun j h1 h2 => q7 j (by omega) (by omega) (by omega)) ?_
    rw [show c + 8 + 1 + (7 - c) = 16 by omega]
    exact pk_le 16 16 (fun _ => H _ _ _ _ _ _ _ _ _ _ _ _ _ ⟨r1, by omega, rfl, hK, r5⟩) (fun z => absurd z (by omega))
  have s2 : ∀ (f g : Int32) (a1 a2 a3 a4 : Nat → Int32), qs_K c (fv + cond wc 1 0) (cond wc ((fv, cm + 1, oc) :: lc) lc) ld f g a1 a2 a3 a4 → wX_install_25 post (nI t) (nI (cm + 1)) (1 + (7 - c) + 1) (nI (c + 8)) f g a1 a2 a3 a4 a5 a6 a7 a8 a9 a10 := by
    intro f g a1 a2 a3 a4 hK
    have hlt : fv + cond wc 1 0 < 110 := by
      cases wc
      · exact (by omega : fv + 0 < 110)
      · exact (by omega : fv + 1 < 110)
    cases hwd : wd with
    | false =>
      rw [hwd] at s3 q6
      exact qs_inst_skip ht 1 (1 + (7 - c)) (c + 8) (by omega) (fun j h1 h2 => by rw [show j = c + 8 by omega]; exact q6) (s3 f g a1 a2 a3 a4 hK)
    | true =>
      rw [hwd] at s3 q6
      exact qs_inst_put ht (by omega) hK.2.1 (by omega) q6 q11 (s3 _ _ _ _ _ _ (qs_K_put_d hK (by omega) hlt b4))
  have s1 : ∀ (f g : Int32) (a1 a2 a3 a4 : Nat → Int32), qs_K c (fv + cond wc 1 0) (cond wc ((fv, cm + 1, oc) :: lc) lc) ld f g a1 a2 a3 a4 → wX_install_25 post (nI t) (nI (cm + 1)) (1 + (7 - c) + 1 + 7) (nI (c + 1)) f g a1 a2 a3 a4 a5 a6 a7 a8 a9 a10 := by
    intro f g a1 a2 a3 a4 hK
    exact qs_inst_skip ht 7 (1 + (7 - c) + 1) (c + 1) (by omega) (fun j h1 h2 => q7 j (by omega) (by omega) (by omega)) (s2 f g a1 a2 a3 a4 hK)
  have s0 : wX_install_25 post (nI t) (nI (cm + 1)) (1 + (7 - c) + 1 + 7 + 1) (nI c) f g a1 a2 a3 a4 a5 a6 a7 a8 a9 a10 := by
    cases hwc : wc with
    | false =>
      rw [hwc] at s1 q5
      exact qs_inst_skip ht 1 (1 + (7 - c) + 1 + 7) c (by omega) (fun j h1 h2 => by rw [show j = c by omega]; exact q5) (s1 f g a1 a2 a3 a4 r4)
    | true =>
      rw [hwc] at s1 q5
      exact qs_inst_put ht (by omega) r4.2.1 (by omega) q5 q10 (s1 _ _ _ _ _ _ (qs_K_put_c r4 (by omega) (by omega) b3))
  refine ⟨1 + (7 - c) + 1 + 7 + 1 + c, ?_⟩
  refine qs_inst_skip ht c (1 + (7 - c) + 1 + 7 + 1) 0 (by omega) (fun j h1 h2 => q7 j (by omega) (by omega) (by omega)) ?_
  rw [Nat.zero_add]
  exact s0
theorem qs_commit (t : Nat) {post : Int32 → St2 → Prop} {c cm fv : Nat} {lc ld : qs_C} {T : Nat → qs_X} {se wc wd sc sd : Bool} {be : Nat} {oc od : Int32} (hR : qs_R c cm fv lc ld T (f, g, k, a1, a2, a3, a4, a5, a6, a7, a8, a9, a10)) (hT : T t = (true, se, be, wc, wd, sc, sd, oc, od)) (hm : qs_mc lc ld se be wc wd sc sd = true) (hw : (wc || wd) = true) (hg : (Nat.ble cm 800 && (Nat.ble fv 100 && (Nat.ble lc.length 90 && Nat.ble ld.length 90))) = true)
    (H : ∀ (f g k : Int32) (a1 a2 a3 a4 a5 a6 a7 a8 a9 a10 : Nat → Int32), qs_R c (cm + 1) (fv + cond wc 1 0 + cond wd 1 0) (cond wc ((fv, cm + 1, oc) :: lc) lc) (cond wd ((fv + cond wc 1 0, cm + 1, od) :: ld) ld) (qs_u T t (false, se, be, wc, wd, sc, sd, oc, od)) (f, g, k, a1, a2, a3, a4, a5, a6, a7, a8, a9, a10) → post 0 (f, g, k, a1, a2, a3, a4, a5, a6, a7, a8, a9, a10)) (ht : t < 6 := by decide) : wpX_commit post (f, g, k, a1, a2, a3, a4, a5, a6, a7, a8, a9, a10) (nI t) := by
  unfold wpX_commit
  refine qs_live hR hT (br_f (by decide) ?_) ht
  have hS := qs_R_shut hR hT ht
  obtain ⟨r1, r2, r3, r4, r5⟩ := hR
  have hx := r5 t ht
  rw [hT] at hx
  refine qs_mayCommit r1 ht r4 hx ?_
  obtain ⟨q1, q2, q3, q4, q5, q6, q7, q8, q9, q10, q11⟩ := hx
  have hn : ¬ a8 t = 0 := by
    cases hc : wc with
    | true => exact qs_ne0 (q5.trans hc)
    | false =>
      rw [hc, Bool.false_or] at hw
      exact qs_ne0 (q6.trans hw)
  rw [hm]
  refine ⟨pk_in t 6 ht, ?_⟩
  rw [nI_clamp (show t < 2 ^ 31 by omega)]
  refine nm_e (br_f (by decide) ⟨pk_in t 6 ht, br_f hn ?_⟩)
  exact qs_install hS qs_u_s hg ht (fun f g k a1 a2 a3 a4 a5 a6 a7 a8 a9 a10 h => H _ _ _ _ _ _ _ _ _ _ _ _ _ h)
theorem qs_commit_no (t : Nat) {post : Int32 → St2 → Prop} {c cm fv : Nat} {lc ld : qs_C} {T : Nat → qs_X} {se wc wd sc sd : Bool} {be : Nat} {oc od : Int32} (hR : qs_R c cm fv lc ld T (f, g, k, a1, a2, a3, a4, a5, a6, a7, a8, a9, a10)) (hT : T t = (true, se, be, wc, wd, sc, sd, oc, od)) (hm : qs_mc lc ld se be wc wd sc sd = false)
    (H : ∀ (f g k : Int32) (a1 a2 a3 a4 a5 a6 a7 a8 a9 a10 : Nat → Int32), qs_R c cm fv lc ld (qs_u T t (false, se, be, wc, wd, sc, sd, oc, od)) (f, g, k, a1, a2, a3, a4, a5, a6, a7, a8, a9, a10) → post 1 (f, g, k, a1, a2, a3, a4, a5, a6, a7, a8, a9, a10)) (ht : t < 6 := by decide) : wpX_commit post (f, g, k, a1, a2, a3, a4, a5, a6, a7, a8, a9, a10) (nI t) := by
  unfold wpX_commit
  refine qs_live hR hT (br_f (by decide) ?_) ht
  have hS := qs_R_shut hR hT ht
  obtain ⟨r1, r2, r3, r4, r5⟩ := hR
  have hx := r5 t ht
  rw [hT] at hx
  refine qs_mayCommit r1 ht r4 hx ?_
  rw [hm]
  refine ⟨pk_in t 6 ht, ?_⟩
  rw [nI_clamp (show t < 2 ^ 31 by omega)]
  exact nm_e (br_t rfl (H _ _ _ _ _ _ _ _ _ _ _ _ _ hS))
theorem qs_commit_m1 (t : Nat) {post : Int32 → St2 → Prop} {c cm fv : Nat} {lc ld : qs_C} {T : Nat → qs_X} {se wc wd sc sd : Bool} {be : Nat} {oc od : Int32} (hR : qs_R c cm fv lc ld T (f, g, k, a1, a2, a3, a4, a5, a6, a7, a8, a9, a10)) (hT : T t = (false, se, be, wc, wd, sc, sd, oc, od)) (hp : post (-1) (f, g, k, a1, a2, a3, a4, a5, a6, a7, a8, a9, a10)) (ht : t < 6 := by decide) : wpX_commit post (f, g, k, a1, a2, a3, a4, a5, a6, a7, a8, a9, a10) (nI t) := by
  unfold wpX_commit
  exact qs_live hR hT (br_t rfl hp) ht
theorem qs_isSeen {x y : Nat} {post : Int32 → Prop} {c cm fv : Nat} {lc ld : qs_C} {T : Nat → qs_X} (hR : qs_R c cm fv lc ld T (f, g, k, a1, a2, a3, a4, a5, a6, a7, a8, a9, a10)) (h : qs_se T x y 6 = true) (hx : x < 1000) (hy : y < 1000) (hp : post 1) : wpX_isSeen post (f, g, k, a1, a2, a3, a4, a5, a6, a7, a8, a9, a10) (nI x) (nI y) := by
  obtain ⟨t, ht, h1, h2, h3⟩ := qs_se_at h
  obtain ⟨r1, r2, r3, r4, r5⟩ := hR
  obtain ⟨q1, q2, q3⟩ := qs_x_1 (r5 t ht)
  rw [h1] at q1
  unfold wpX_isSeen
  refine pk_loop (σ := Unit) (fun n i _ => wX_isSeen_2 post (nI x) (nI y) f g k a1 a2 a3 a4 a5 a6 a7 a8 a9 a10 n (nI i)) (fun _ _ => True) t 0 () (by omega) trivial ?_ ?_
  · intro n _ _
    refine pk_le 6 t (fun z => absurd z (by omega)) (fun _ => ⟨pk_in t 6 ht, ?_⟩)
    rw [nI_clamp (show t < 2 ^ 31 by omega)]
    exact br_f (by rw [q1]; decide) ⟨pk_in t 6 ht, pk_lt (T t).2.2.1 x (fun z => absurd z (by omega)) (fun _ => ⟨pk_in t 6 ht, pk_le y (T t).2.2.1 (fun z => absurd z (by omega)) (fun _ => hp) rfl q2⟩) q2 rfl⟩
  · intro n i _ hi _ hw
    have hw' : wX_isSeen_2 post (nI x) (nI y) f g k a1 a2 a3 a4 a5 a6 a7 a8 a9 a10 n (nI (i + 1)) := hw () trivial
    exact pk_le 6 i (fun z => absurd z (by omega)) (fun _ => ⟨pk_in i 6 (by omega), br_c (fun _ => nm_r (nI_1 i) hw') (fun _ => ⟨pk_in i 6 (by omega), br_c (fun _ => nm_r (nI_1 i) hw') (fun _ => ⟨pk_in i 6 (by omega), br_c (fun _ => nm_r (nI_1 i) hw') (fun _ => hp)⟩)⟩)⟩)
theorem qs_prune30 {post : St2 → Prop} {c cm fv : Nat} {lc ld : qs_C} {T : Nat → qs_X} (hR : qs_R c cm fv lc ld T (f, g, k, a1, a2, a3, a4, a5, a6, a7, a8, a9, a10)) (hf : fv ≤ 144) (hp : post (f, g, k, a1, a2, a3, a4, a5, a6, a7, a8, a9, a10)) : ∀ (l : qs_C) (x2 p : Int32) (y s : Nat), qs_ch fv a1 a2 a3 l p → qs_tk T l y = true → y < 1000 → s + l.length < 144 → wX_prune_30 post k (l.length + 1) x2 p (nI y) (nI s) f g a1 a2 a3 a4 a5 a6 a7 a8 a9 a10 := by
  intro l
  induction l with
  | nil =>
    intro x2 p y s h _ _ hs
    have hs' : s < 144 := hs
    exact pk_le 144 s (fun z => absurd z (by omega)) (fun _ => br_t (qs_neg h) hp)
  | cons e l ih =>
    intro x2 p y s h ht hy hs
    obtain ⟨q1, q2, q3, q4, q5, q6⟩ := h
    have hs' : s + (l.length + 1) < 144 := hs
    have hcl : p.toNatClampNeg = e.1 := pk_cl e.1 q1
    have hse := qs_and (a := qs_se T e.2.1 y 6) (b := qs_tk T l e.2.1) ht
    refine pk_le 144 s (fun z => absurd z (by omega)) (fun _ => br_f (by rw [q1]; exact nI_pos (by omega)) ⟨pk_in e.1 144 (by omega) q1, ?_⟩)
    rw [hcl]
    refine nm_e ⟨pk_in e.1 144 (by omega) q1, nm_r q4 ?_⟩
    exact qs_isSeen hR hse.1 q3 hy (br_f (by decide) (nm_r (nI_1 s) (ih _ _ _ _ q6 hse.2 q3 (by omega))))
theorem qs_prune {j : Nat} {post : St2 → Prop} {c cm fv : Nat} {lc ld : qs_C} {T : Nat → qs_X} {l : qs_C} (hR : qs_R c cm fv lc ld T (f, g, k, a1, a2, a3, a4, a5, a6, a7, a8, a9, a10)) (hf : fv ≤ 144) (hj : j < 16) (h : qs_ch fv a1 a2 a3 l (a4 j)) (hl : l.length ≤ 100) (ht : qs_tl T l = true) (hp : post (f, g, k, a1, a2, a3, a4, a5, a6, a7, a8, a9, a10)) : wpX_prune post (f, g, k, a1, a2, a3, a4, a5, a6, a7, a8, a9, a10) (nI j) := by
  unfold wpX_prune
  refine ⟨pk_in j 16 hj, nm_r (e' := a4 j) (by rw [nI_clamp (show j < 2 ^ 31 by omega)]) ?_⟩
  cases l with
  | nil =>
    have h' : a4 j = -1 := h
    exact br_f (by rw [h']; decide) hp
  | cons e l =>
    obtain ⟨q1, q2, q3, q4, q5, q6⟩ := h
    have hcl : (a4 j).toNatClampNeg = e.1 := pk_cl e.1 q1
    have hl' : l.length + 1 ≤ 100 := hl
    refine br_t (by rw [q1]; exact nI_pos' (by omega)) ⟨pk_in e.1 144 (by omega) q1, ?_⟩
    rw [hcl]
    exact nm_e ⟨pk_in e.1 144 (by omega) q1, nm_r q4 ⟨l.length + 1, qs_prune30 hR hf hp l (a4 j) (a3 e.1) e.2.1 0 q6 ht q3 (by omega)⟩⟩
theorem qs_tidy {post : St2 → Prop} {c cm fv : Nat} {lc ld : qs_C} {T : Nat → qs_X} (hR : qs_R c cm fv lc ld T (f, g, k, a1, a2, a3, a4, a5, a6, a7, a8, a9, a10)) (h1 : qs_tl T lc = true) (h2 : qs_tl T ld = true) (hp : post (f, g, k, a1, a2, a3, a4, a5, a6, a7, a8, a9, a10)) : wpX_tidy post (f, g, k, a1, a2, a3, a4, a5, a6, a7, a8, a9, a10) := by
  have hR' := hR
  obtain ⟨r1, r2, r3, r4, r5⟩ := hR'
  have hf : fv ≤ 144 := by
    have := r4.1
    omega
  unfold wpX_tidy
  refine pk_loop (σ := Unit) (fun n i _ => wX_tidy_2 post n (nI i) f g k a1 a2 a3 a4 a5 a6 a7 a8 a9 a10) (fun _ _ => True) 16 0 () (by omega) trivial ?_ ?_
  · intro n _ _
    exact pk_le 16 16 (fun _ => hp) (fun z => absurd z (by omega))
  · intro n i _ hi _ hw
    have hw' : wX_tidy_2 post n (nI (i + 1)) f g k a1 a2 a3 a4 a5 a6 a7 a8 a9 a10 := hw () trivial
    have hL := qs_K_at r4 hi
    have ht : qs_tl T (qs_L c lc ld i) = true := by
      unfold qs_L
      by_cases e : i = c
      · rw [if_pos e]
        exact h1
      · rw [if_neg e]
        by_cases e2 : i = c + 8
        · rw [if_pos e2]
          exact h2
        · rw [if_neg e2]
          rfl
    exact pk_le 16 i (fun z => absurd z (by omega)) (fun _ => qs_prune hR hf hi hL.1 hL.2 ht (nm_r (nI_1 i) hw'))
def qs_Z : qs_X := (false, false, 0, false, false, false, false, 0, 0)
theorem qs_init {post : St2 → Prop} {mc ms c : Nat} (hc : c < 8) (h1 : 10 ≤ mc) (h2 : 574 ≤ ms) (H : ∀ (f g k : Int32) (a1 a2 a3 a4 a5 a6 a7 a8 a9 a10 : Nat → Int32), qs_R c 0 0 [] [] (fun _ => qs_Z) (f, g, k, a1, a2, a3, a4, a5, a6, a7, a8, a9, a10) → post (f, g, k, a1, a2, a3, a4, a5, a6, a7, a8, a9, a10)) : wpX_init post mc ms (0, 0, 0) := by
  have b : ∀ b3 : Nat → Int32, (∀ v, v < 144 → v < 143 → b3 v = nI (v + 1)) → ∃ n, wX_init_131 post mc ms 10 574 0 144 0 n 0 (fun _ => 0) (fun _ => 0) b3 (fun _ => 0) (fun _ => 0) (fun _ => 0) (fun _ => 0) (fun _ => 0) (fun _ => 0) (fun _ => 0) := by
    intro b3 h3
    refine pk_loop (fun n i s => wX_init_131 post mc ms 10 574 0 144 0 n (nI i) (fun _ => 0) (fun _ => 0) b3 s (fun _ => 0) (fun _ => 0) (fun _ => 0) (fun _ => 0) (fun _ => 0) (fun _ => 0)) (fun i s => ∀ j, j < i → s j = -1) 16 0 (fun _ => 0) (by omega) (fun j hj => absurd hj (by omega)) ?_ ?_
    · intro n s h
      refine pk_le 16 16 (fun _ => H _ _ _ _ _ _ _ _ _ _ _ _ _ ⟨hc, by decide, rfl, ⟨by decide, rfl, rfl, fun v _ hv => h3 v (by omega) hv, h c (by omega), h (c + 8) (by omega), by decide, by decide, fun j hj _ _ => h j hj⟩, fun t ht => ?_⟩) (fun z => absurd z (by omega))
      exact ⟨rfl, rfl, rfl, by decide, qs_b0 _, qs_b0 _, fun j _ _ _ => qs_b0 j, qs_b0 _, qs_b0 _, rfl, rfl⟩
    · intro n i s hi h hw
      refine pk_le 16 i (fun z => absurd z (by omega)) (fun _ => ⟨pk_in i 16 hi, ?_⟩)
      rw [nI_clamp (show i < 2 ^ 31 by omega)]
      refine nm_e (nm_r (nI_1 i) (hw _ (fun j hj => ?_)))
      by_cases e : j = i
      · rw [e, pk_us]
      · rw [pk_un e]
        exact h j (by omega)
  unfold wpX_init
  refine ⟨by omega, by omega, by omega, by omega, by omega, by omega, by omega, by omega, by omega, by omega, by omega, by omega, by omega, by omega, by omega, by omega, by omega, by omega, by omega, by omega, ?_⟩
  refine pk_loop (fun n i s => wX_init_89 post mc ms 10 574 0 0 0 n (nI i) (fun _ => 0) (fun _ => 0) s (fun _ => 0) (fun _ => 0) (fun _ => 0) (fun _ => 0) (fun _ => 0) (fun _ => 0) (fun _ => 0)) (fun i s => ∀ v, v < i → v < 143 → s v = nI (v + 1)) 144 0 (fun _ => 0) (by omega) (fun j hj => absurd hj (by omega)) ?_ ?_
  · intro n s h
    exact pk_le 144 144 (fun _ => b s h) (fun z => absurd z (by omega))
  · intro n i s hi h hw
    refine pk_le 144 i (fun z => absurd z (by omega)) (fun _ => ?_)
    rw [nI_clamp (show i < 2 ^ 31 by omega)]
    refine pk_eq i 143 (fun z => ⟨pk_in i 144 hi, nm_e (nm_r (nI_1 i) (hw _ (fun v h1 h2 => ?_)))⟩) (fun z => ⟨pk_in i 144 hi, nm_e (nm_r (nI_1 i) (hw _ (fun v h1 h2 => ?_)))⟩)
    · rw [pk_un (by omega)]
      exact h v (by omega) h2
    · by_cases e : v = i
      · rw [e, pk_us, nI_1]
      · rw [pk_un e]
        exact h v (by omega) h2
end
end
section
/-! the law, its second half: from the second write of transaction 0 on -/
section
variable {f g k : Int32} {a1 a2 a3 a4 a5 a6 a7 a8 a9 a10 : Nat → Int32} {post : Int32 → St0 → Prop} {mc ms kc ks c : Nat} {a b y z0 z1 z2 x4 : Int32} {m o s : Bool}
def qs_T (x0 x1 x2 : qs_X) : Nat → qs_X := fun t => match t with
  | 0 => x0
  | 1 => x1
  | 2 => x2
  | _ => qs_Z
theorem qs_L694 (hp : post 1 ()) (hR : qs_R c 3 4 [(2, 2, a + 1 + b), (0, 1, a)] [(3, 3, y), (1, 1, b)] (qs_T (false, s, 1, o, true, !o, false, cond o 5 a, 7) (false, false, 2, false, true, true, true, a + 1 + b, 9) (false, true, 1, false, false, true, true, 0, 0)) (f, g, k, a1, a2, a3, a4, a5, a6, a7, a8, a9, a10)) : ∃ n, wL_lawOf_694 post mc ms a b (nI c) kc ks n 0 f g k a1 a2 a3 a4 a5 a6 a7 a8 a9 a10 := by
  refine ⟨7, ?_⟩
  refine pk_le 6 0 (fun z => absurd z (by decide)) (fun _ => qs_begin 0 true hR rfl rfl ?_)
  intro f g k a1 a2 a3 a4 a5 a6 a7 a8 a9 a10 hR
  refine br_t rfl (nm_r (nI_1 0) ?_)
  refine pk_le 6 1 (fun z => absurd z (by decide)) (fun _ => qs_begin 1 true hR rfl rfl ?_)
  intro f g k a1 a2 a3 a4 a5 a6 a7 a8 a9 a10 hR
  refine br_t rfl (nm_r (nI_1 1) ?_)
  refine pk_le 6 2 (fun z => absurd z (by decide)) (fun _ => qs_begin 2 true hR rfl rfl ?_)
  intro f g k a1 a2 a3 a4 a5 a6 a7 a8 a9 a10 hR
  refine br_t rfl (nm_r (nI_1 2) ?_)
  refine pk_le 6 3 (fun z => absurd z (by decide)) (fun _ => qs_begin 3 true hR rfl rfl ?_)
  intro f g k a1 a2 a3 a4 a5 a6 a7 a8 a9 a10 hR
  refine br_t rfl (nm_r (nI_1 3) ?_)
  refine pk_le 6 4 (fun z => absurd z (by decide)) (fun _ => qs_begin 4 true hR rfl rfl ?_)
  intro f g k a1 a2 a3 a4 a5 a6 a7 a8 a9 a10 hR
  refine br_t rfl (nm_r (nI_1 4) ?_)
  refine pk_le 6 5 (fun z => absurd z (by decide)) (fun _ => qs_begin 5 true hR rfl rfl ?_)
  intro f g k a1 a2 a3 a4 a5 a6 a7 a8 a9 a10 hR
  refine br_t rfl (nm_r (nI_1 5) ?_)
  refine pk_le 6 6 (fun _ => ?_) (fun z => absurd z (by decide))
  refine qs_begin_no hR rfl (br_t rfl (qs_write_c 3 hR rfl ?_))
  intro f g k a1 a2 a3 a4 a5 a6 a7 a8 a9 a10 hR
  refine br_t rfl (qs_commit 3 hR rfl rfl rfl rfl ?_)
  intro f g k a1 a2 a3 a4 a5 a6 a7 a8 a9 a10 hR
  refine br_t rfl (qs_read_c 5 hR rfl ?_)
  intro f g k a1 a2 a3 a4 a5 a6 a7 a8 a9 a10 hR
  refine br_t rfl (qs_might 5 hR rfl (br_t rfl (qs_might 4 hR rfl (br_t rfl (qs_begin 3 false hR rfl rfl ?_)))))
  intro f g k a1 a2 a3 a4 a5 a6 a7 a8 a9 a10 hR
  refine br_t rfl (qs_read_c 3 hR rfl ?_)
  intro f g k a1 a2 a3 a4 a5 a6 a7 a8 a9 a10 hR
  exact br_t rfl (qs_read_16 3 hR rfl (br_t rfl (qs_write_6 (br_t rfl (qs_add_m1 3 hR rfl (br_t rfl hp))))))
theorem qs_L678 (hp : post 1 ()) (hz : z1 = z0) (hR : qs_R c 3 4 [(2, 2, a + 1 + b), (0, 1, a)] [(3, 3, y), (1, 1, b)] (qs_T (false, s, 1, o, true, !o, false, cond o 5 a, 7) (false, false, 2, false, true, true, true, a + 1 + b, 9) (false, true, 1, false, false, true, true, 0, 0)) (f, g, k, a1, a2, a3, a4, a5, a6, a7, a8, a9, a10)) : wL_lawOf_678 post mc ms a b (nI c) z0 z1 kc ks f g k a1 a2 a3 a4 a5 a6 a7 a8 a9 a10 := by
  unfold wL_lawOf_678
  exact br_t hz (qs_open hR (br_t rfl (qs_L694 hp hR)))
theorem qs_L656 (hp : post 1 ()) (hz : z1 = z0) (hR : qs_R c 3 4 [(2, 2, a + 1 + b), (0, 1, a)] [(3, 3, cond m 7 9), (1, 1, b)] (qs_T (false, s, 1, o, true, !o, false, cond o 5 a, 7) (false, false, 2, false, true, true, true, a + 1 + b, 9) (false, true, 1, false, false, true, true, 0, 0)) (f, g, k, a1, a2, a3, a4, a5, a6, a7, a8, a9, a10)) : wL_lawOf_656 post mc ms a b (nI c) (nI (c + 8)) (qs_i m) z0 z1 kc ks f g k a1 a2 a3 a4 a5 a6 a7 a8 a9 a10 := by
  unfold wL_lawOf_656
  refine br_t hz (qs_comm_d hR ?_)
  cases m
  · exact br_t rfl (qs_L678 hp rfl hR)
  · exact br_f (by decide) (qs_L678 hp rfl hR)
theorem qs_L590 (hp : post 1 ()) (hz : z1 = z0) (hR : qs_R c (cond m 3 2) (cond m 4 3) [(2, 2, a + 1 + b), (0, 1, a)] (cond m [(3, 3, 7), (1, 1, b)] [(1, 1, b)]) (qs_T (false, s, 1, o, true, !o, false, cond o 5 a, 7) (true, false, 2, false, true, true, true, a + 1 + b, 9) (true, true, 1, false, false, false, true, 0, 0)) (f, g, k, a1, a2, a3, a4, a5, a6, a7, a8, a9, a10)) : wL_lawOf_590 post mc ms a b (nI c) (nI (c + 8)) (qs_i m) z0 z1 kc ks f g k a1 a2 a3 a4 a5 a6 a7 a8 a9 a10 := by
  unfold wL_lawOf_590
  refine br_t hz (qs_read_c 2 hR rfl ?_)
  intro f g k a1 a2 a3 a4 a5 a6 a7 a8 a9 a10 hR
  refine br_t rfl (qs_might 2 hR rfl (br_t rfl (qs_tidy hR rfl (by cases m <;> rfl) ?_)))
  refine qs_abort 2 hR rfl ?_
  intro f g k a1 a2 a3 a4 a5 a6 a7 a8 a9 a10 hR
  refine br_t rfl (qs_abort_no 2 hR rfl (br_t rfl ?_))
  cases m
  · refine qs_commit 1 hR rfl rfl rfl rfl ?_
    intro f g k a1 a2 a3 a4 a5 a6 a7 a8 a9 a10 hR
    exact br_t rfl (qs_L656 (m := false) hp rfl (qs_R_cg hR (qs_6 rfl rfl rfl rfl rfl rfl)))
  · refine qs_commit_no 1 hR rfl rfl ?_
    intro f g k a1 a2 a3 a4 a5 a6 a7 a8 a9 a10 hR
    exact br_f (by decide) (qs_L656 (m := true) hp rfl (qs_R_cg hR (qs_6 rfl rfl rfl rfl rfl rfl)))
theorem qs_L544 (hp : post 1 ()) (hz : z1 = z0) (hR : qs_R c (cond m 3 2) (cond m 4 3) [(2, 2, a + 1 + b), (0, 1, a)] (cond m [(3, 3, 7), (1, 1, b)] [(1, 1, b)]) (qs_T (false, s, 1, o, true, !o, false, cond o 5 a, 7) (true, false, 2, false, false, true, false, a + 1 + b, 0) (true, true, 1, false, false, false, true, 0, 0)) (f, g, k, a1, a2, a3, a4, a5, a6, a7, a8, a9, a10)) : wL_lawOf_544 post mc ms a b (nI c) (nI (c + 8)) (qs_i m) z0 z1 kc ks f g k a1 a2 a3 a4 a5 a6 a7 a8 a9 a10 := by
  unfold wL_lawOf_544
  refine br_t hz (qs_read_d 1 hR rfl ?_)
  intro f g k a1 a2 a3 a4 a5 a6 a7 a8 a9 a10 hR
  refine br_t (by cases m <;> rfl) (qs_write_d 1 hR rfl ?_)
  intro f g k a1 a2 a3 a4 a5 a6 a7 a8 a9 a10 hR
  refine br_t rfl (qs_might 1 hR rfl ?_)
  cases m
  · exact br_t rfl (qs_L590 (m := false) hp rfl (qs_R_cg hR (qs_6 rfl rfl rfl rfl rfl rfl)))
  · exact br_f (by decide) (qs_L590 (m := true) hp rfl (qs_R_cg hR (qs_6 rfl rfl rfl rfl rfl rfl)))
theorem qs_L510 (hp : post 1 ()) (hz : z1 = z0) (hR : qs_R c (cond m 3 2) (cond m 4 3) [(2, 2, a + 1 + b), (0, 1, a)] (cond m [(3, 3, 7), (1, 1, b)] [(1, 1, b)]) (qs_T (false, s, 1, o, true, !o, false, cond o 5 a, 7) (true, false, 2, false, false, true, false, a + 1 + b, 0) (true, true, 1, false, false, false, true, 0, 0)) (f, g, k, a1, a2, a3, a4, a5, a6, a7, a8, a9, a10)) : wL_lawOf_510 post mc ms a b (nI c) (nI (c + 8)) (qs_i m) z0 z1 kc ks f g k a1 a2 a3 a4 a5 a6 a7 a8 a9 a10 := by
  unfold wL_lawOf_510
  refine br_t hz (qs_comm_c hR (br_t (by cases m <;> rfl) (qs_might 2 hR rfl ?_)))
  cases m
  · exact br_t rfl (qs_L544 (m := false) hp rfl hR)
  · exact br_f (by decide) (qs_L544 (m := true) hp rfl hR)
theorem qs_L487 (hp : post 1 ()) (hz : z1 = z0) (hR : qs_R c (cond m 3 2) (cond m 4 3) [(2, 2, a + 1 + b), (0, 1, a)] (cond m [(3, 3, 7), (1, 1, b)] [(1, 1, b)]) (qs_T (false, s, 1, o, true, !o, false, cond o 5 a, 7) (true, false, 2, false, false, true, false, a + 1 + b, 0) (true, true, 1, false, false, false, true, 0, 0)) (f, g, k, a1, a2, a3, a4, a5, a6, a7, a8, a9, a10)) : wL_lawOf_487 post mc ms a b (nI c) (nI (c + 8)) (qs_i m) z0 z1 kc ks f g k a1 a2 a3 a4 a5 a6 a7 a8 a9 a10 := by
  unfold wL_lawOf_487
  refine br_t hz (qs_comm_d hR ?_)
  cases m
  · exact br_t rfl (qs_L510 (m := false) hp rfl hR)
  · exact br_f (by decide) (qs_L510 (m := true) hp rfl hR)
theorem qs_L468 (hm : m = (!o && !s)) (hp : post 1 ()) (hz : z1 = z0) (hR : qs_R c 2 3 [(2, 2, a + 1 + b), (0, 1, a)] [(1, 1, b)] (qs_T (true, s, 1, o, true, !o, false, cond o 5 a, 7) (true, false, 2, false, false, true, false, a + 1 + b, 0) (true, true, 1, false, false, false, true, 0, 0)) (f, g, k, a1, a2, a3, a4, a5, a6, a7, a8, a9, a10)) : wL_lawOf_468 post mc ms a b (nI c) (nI (c + 8)) (qs_i m) z0 z1 kc ks f g k a1 a2 a3 a4 a5 a6 a7 a8 a9 a10 := by
  unfold wL_lawOf_468
  refine br_t hz ?_
  cases m
  · refine qs_commit_no 0 hR rfl (by cases o <;> cases s <;> first | rfl | exact absurd hm (by decide)) ?_
    intro f g k a1 a2 a3 a4 a5 a6 a7 a8 a9 a10 hR
    exact br_t rfl (qs_L487 (m := false) (o := o) (s := s) hp rfl (qs_R_cg hR (qs_6 rfl rfl rfl rfl rfl rfl)))
  · have ho : o = false := by cases o <;> cases s <;> first | rfl | exact absurd hm (by decide)
    have hs : s = false := by cases o <;> cases s <;> first | rfl | exact absurd hm (by decide)
    subst ho
    subst hs
    refine qs_commit 0 hR rfl rfl rfl rfl ?_
    intro f g k a1 a2 a3 a4 a5 a6 a7 a8 a9 a10 hR
    exact br_f (by decide) (qs_L487 (m := true) (o := false) (s := false) hp rfl (qs_R_cg hR (qs_6 rfl rfl rfl rfl rfl rfl)))
theorem qs_L437 (hm : m = (!o && !s)) (hp : post 1 ()) (hR : qs_R c 2 3 [(2, 2, a + 1 + b), (0, 1, a)] [(1, 1, b)] (qs_T (true, s, 1, o, false, !o, false, cond o 5 a, b) (true, false, 2, false, false, true, false, a + 1 + b, 0) (true, true, 1, false, false, false, true, 0, 0)) (f, g, k, a1, a2, a3, a4, a5, a6, a7, a8, a9, a10)) : wL_lawOf_437 post mc ms a b (nI c) (nI (c + 8)) (qs_i m) kc ks f g k a1 a2 a3 a4 a5 a6 a7 a8 a9 a10 := by
  unfold wL_lawOf_437
  refine qs_write_d 0 hR rfl ?_
  intro f g k a1 a2 a3 a4 a5 a6 a7 a8 a9 a10 hR
  refine br_t rfl (qs_might 0 hR rfl ?_)
  have e : qs_mc [(2, 2, a + 1 + b), (0, 1, a)] [(1, 1, b)] s 1 o true (!o) false = m := by
    subst hm
    cases o <;> cases s <;> rfl
  cases m
  · exact br_t rfl (qs_L468 (m := false) hm hp (congrArg qs_i e) (qs_R_cg hR (qs_6 rfl rfl rfl rfl rfl rfl)))
  · exact br_f (by decide) (qs_L468 (m := true) hm hp (congrArg qs_i e) (qs_R_cg hR (qs_6 rfl rfl rfl rfl rfl rfl)))
theorem qs_L436 (hm : false = (!o && !s)) (hp : post 1 ()) (hR : qs_R c 2 3 [(2, 2, a + 1 + b), (0, 1, a)] [(1, 1, b)] (qs_T (true, s, 1, o, false, !o, false, cond o 5 a, b) (true, false, 2, false, false, true, false, a + 1 + b, 0) (true, true, 1, false, false, false, true, 0, 0)) (f, g, k, a1, a2, a3, a4, a5, a6, a7, a8, a9, a10)) : wL_lawOf_436 post mc ms a b (nI c) (nI (c + 8)) kc ks f g k a1 a2 a3 a4 a5 a6 a7 a8 a9 a10 := by
  unfold wL_lawOf_436
  exact qs_L437 (m := false) hm hp hR
end
end
section
/-! the law, its first half -/
section
variable {f g k : Int32} {a1 a2 a3 a4 a5 a6 a7 a8 a9 a10 : Nat → Int32} {post : Int32 → St0 → Prop} {mc ms kc ks c : Nat} {a b y z0 z1 z2 x4 : Int32} {m o s : Bool}
theorem qs_L288 (hp : post 1 ()) (hz : z2 = z1 + z0) (hR : qs_R c 1 2 [(0, 1, a)] [(1, 1, b)] (qs_T (true, s, 1, o, false, !o, false, cond o 5 a, b) (true, false, 1, true, false, true, false, a + 1 + b, 0) (true, true, 1, false, false, false, false, 0, 0)) (f, g, k, a1, a2, a3, a4, a5, a6, a7, a8, a9, a10)) : wL_lawOf_288 post mc ms a b (nI c) (nI (c + 8)) (qs_i s) (qs_i o) z0 z1 z2 kc ks f g k a1 a2 a3 a4 a5 a6 a7 a8 a9 a10 := by
  have hc : c < 8 := qs_R_c hR
  unfold wL_lawOf_288
  refine br_t hz (qs_might 1 hR rfl (br_t rfl (qs_commit 1 hR rfl rfl rfl rfl ?_)))
  intro f g k a1 a2 a3 a4 a5 a6 a7 a8 a9 a10 hR
  refine br_t rfl (qs_commit_m1 1 hR rfl (br_t rfl (qs_comm_c hR (br_t rfl (qs_read_d 2 hR rfl ?_)))))
  intro f g k a1 a2 a3 a4 a5 a6 a7 a8 a9 a10 hR
  refine br_t rfl (qs_tidy hR rfl rfl ?_)
  refine qs_begin 1 false hR rfl rfl ?_
  intro f g k a1 a2 a3 a4 a5 a6 a7 a8 a9 a10 hR
  refine br_t rfl (qs_read_c 1 hR rfl ?_)
  intro f g k a1 a2 a3 a4 a5 a6 a7 a8 a9 a10 hR
  refine br_t rfl ?_
  rw [nI_1 c]
  refine qs_read_o 2 hR rfl (by omega) (by omega) (by omega) ?_
  intro f g k a1 a2 a3 a4 a5 a6 a7 a8 a9 a10 hR
  refine br_t rfl (qs_sum 2 hR rfl (br_t ?_ (qs_might 2 hR rfl (br_t rfl ?_))))
  · rw [(qs_in_one c hc).1, (qs_in_one c hc).2]
    exact Int32.add_zero a
  · cases o
    · refine br_t rfl ?_
      cases s
      · exact br_t rfl (qs_L437 (m := true) (o := false) (s := false) rfl hp (qs_R_cg hR (qs_6 rfl rfl rfl rfl rfl rfl)))
      · exact br_f (by decide) (qs_L436 (o := false) (s := true) rfl hp (qs_R_cg hR (qs_6 rfl rfl rfl rfl rfl rfl)))
    · exact br_f (by decide) (qs_L436 (o := true) (s := s) rfl hp (qs_R_cg hR (qs_6 rfl rfl rfl rfl rfl rfl)))
theorem qs_L276 (hp : post 1 ()) (hz : z1 = z0 + cond (!decide (x4 < nI (c + 8))) b 0) (hR : qs_R c 1 2 [(0, 1, a)] [(1, 1, b)] (qs_T (true, s, 1, o, false, !o, false, cond o 5 a, b) (true, false, 1, true, false, true, false, a + 1 + b, 0) (true, true, 1, false, false, false, false, 0, 0)) (f, g, k, a1, a2, a3, a4, a5, a6, a7, a8, a9, a10)) : wL_lawOf_276 post mc ms a b x4 (nI c) (nI (c + 8)) (qs_i s) (qs_i o) z0 z1 kc ks f g k a1 a2 a3 a4 a5 a6 a7 a8 a9 a10 := by
  unfold wL_lawOf_276
  refine br_c (fun h => qs_L288 hp ?_ hR) (fun h => qs_L288 hp ?_ hR)
  · rw [hz, decide_eq_true h]
    rfl
  · rw [hz, decide_eq_false h]
    rfl
theorem qs_L232 (hp : post 1 ()) (hz : z1 = z0 + b) (hR : qs_R c 1 2 [(0, 1, a)] [(1, 1, b)] (qs_T (true, s, 1, o, false, !o, false, cond o 5 a, b) (true, false, 1, true, false, true, false, a + 1 + b, 0) (true, true, 1, false, false, false, false, 0, 0)) (f, g, k, a1, a2, a3, a4, a5, a6, a7, a8, a9, a10)) : wL_lawOf_232 post mc ms a b x4 (nI c) (nI (c + 8)) (qs_i s) (qs_i o) z0 z1 kc ks f g k a1 a2 a3 a4 a5 a6 a7 a8 a9 a10 := by
  have hc : c < 8 := qs_R_c hR
  unfold wL_lawOf_232
  refine br_t hz (qs_sum 1 hR rfl (br_t ?_ (qs_sum 2 hR rfl (br_c (fun h => qs_L276 hp ?_ hR) (fun h => qs_L276 hp ?_ hR)))))
  · rw [(qs_in_one c hc).1, (qs_in_one c hc).2]
    exact Int32.add_zero (a + 1 + b)
  · rw [qs_in_to x4 (by omega), qs_in_to x4 (by omega), decide_eq_true h]
    rfl
  · rw [qs_in_to x4 (by omega), qs_in_to x4 (by omega), decide_eq_false h]
    rfl
theorem qs_L176 (hp : post 1 ()) (hz : z1 = z0) (hR : qs_R c 1 2 [(0, 1, a)] [(1, 1, b)] (qs_T (true, s, 1, o, false, !o, false, cond o 5 a, b) (true, false, 1, false, false, false, false, 0, 0) (true, true, 1, false, false, false, false, 0, 0)) (f, g, k, a1, a2, a3, a4, a5, a6, a7, a8, a9, a10)) : wL_lawOf_176 post mc ms a b x4 (nI c) (nI (c + 8)) (qs_i s) (qs_i o) z0 z1 kc ks f g k a1 a2 a3 a4 a5 a6 a7 a8 a9 a10 := by
  have hc : c < 8 := qs_R_c hR
  unfold wL_lawOf_176
  refine br_t hz (qs_add_c 1 hR rfl ?_)
  intro f g k a1 a2 a3 a4 a5 a6 a7 a8 a9 a10 hR
  refine br_t rfl (qs_add_c 1 hR rfl ?_)
  intro f g k a1 a2 a3 a4 a5 a6 a7 a8 a9 a10 hR
  refine br_t rfl (qs_sum 0 hR rfl ?_)
  rw [(qs_in_all c hc).1, (qs_in_all c hc).2]
  cases o
  · exact br_t rfl (qs_L232 (o := false) (s := s) hp rfl (qs_R_cg hR (qs_6 rfl rfl rfl rfl rfl rfl)))
  · exact br_f (by decide) (qs_L232 (o := true) (s := s) hp rfl (qs_R_cg hR (qs_6 rfl rfl rfl rfl rfl rfl)))
theorem qs_L158 (hp : post 1 ()) (hR : qs_R c 1 2 [(0, 1, a)] [(1, 1, b)] (qs_T (true, s, 1, o, false, false, false, cond o 5 a, b) (true, false, 1, false, false, false, false, 0, 0) (true, true, 1, false, false, false, false, 0, 0)) (f, g, k, a1, a2, a3, a4, a5, a6, a7, a8, a9, a10)) : wL_lawOf_158 post mc ms a b x4 (nI c) (nI (c + 8)) (qs_i s) (qs_i o) kc ks f g k a1 a2 a3 a4 a5 a6 a7 a8 a9 a10 := by
  unfold wL_lawOf_158
  refine qs_read_c 0 hR rfl ?_
  intro f g k a1 a2 a3 a4 a5 a6 a7 a8 a9 a10 hR
  cases o
  · exact br_t rfl (qs_L176 (o := false) (s := s) hp rfl (qs_R_cg hR (qs_6 rfl rfl rfl rfl rfl rfl)))
  · exact br_f (by decide) (qs_L176 (o := true) (s := s) hp rfl (qs_R_cg hR (qs_6 rfl rfl rfl rfl rfl rfl)))
theorem qs_L46 (hp : post 1 ()) (hR : qs_R c 0 0 [] [] (fun _ => qs_Z) (f, g, k, a1, a2, a3, a4, a5, a6, a7, a8, a9, a10)) : wL_lawOf_46 post mc ms a b x4 (nI c) (nI (c + 8)) (qs_i s) (qs_i o) kc ks f g k a1 a2 a3 a4 a5 a6 a7 a8 a9 a10 := by
  unfold wL_lawOf_46
  refine qs_begin 0 false hR rfl rfl ?_
  intro f g k a1 a2 a3 a4 a5 a6 a7 a8 a9 a10 hR
  refine br_t rfl (qs_write_c 0 hR rfl ?_)
  intro f g k a1 a2 a3 a4 a5 a6 a7 a8 a9 a10 hR
  refine br_t rfl (qs_write_d 0 hR rfl ?_)
  intro f g k a1 a2 a3 a4 a5 a6 a7 a8 a9 a10 hR
  refine br_t rfl (qs_commit 0 hR rfl rfl rfl rfl ?_)
  intro f g k a1 a2 a3 a4 a5 a6 a7 a8 a9 a10 hR
  refine br_t rfl (qs_open hR (br_t rfl (qs_begin 0 s hR rfl rfl ?_)))
  intro f g k a1 a2 a3 a4 a5 a6 a7 a8 a9 a10 hR
  refine br_t rfl (qs_begin 1 false hR rfl rfl ?_)
  intro f g k a1 a2 a3 a4 a5 a6 a7 a8 a9 a10 hR
  refine br_t rfl (qs_begin 2 true hR rfl rfl ?_)
  intro f g k a1 a2 a3 a4 a5 a6 a7 a8 a9 a10 hR
  refine br_t rfl (qs_open hR (br_t rfl ?_))
  cases o
  · exact br_t rfl (qs_L158 (o := false) (s := s) hp (qs_R_cg hR (qs_6 rfl rfl rfl rfl rfl rfl)))
  · refine br_f (by decide) (qs_write_c 0 hR rfl ?_)
    intro f g k a1 a2 a3 a4 a5 a6 a7 a8 a9 a10 hR
    exact br_t rfl (qs_L158 (o := true) (s := s) hp (qs_R_cg hR (qs_6 rfl rfl rfl rfl rfl rfl)))
theorem qs_L33 {x3 : Int32} (hp : post 1 ()) (hR : qs_R c 0 0 [] [] (fun _ => qs_Z) (f, g, k, a1, a2, a3, a4, a5, a6, a7, a8, a9, a10)) : wL_lawOf_33 post mc ms a b x3 x4 (nI c) (nI (c + 8)) (qs_i s) kc ks f g k a1 a2 a3 a4 a5 a6 a7 a8 a9 a10 := by
  unfold wL_lawOf_33
  exact br_c (fun _ => qs_L46 (o := false) hp hR) (fun _ => qs_L46 (o := true) hp hR)
theorem qs_lawOf {p0 p1 p2 p3 p4 : Int32} (hp : post 1 ()) : wpL_lawOf post 312 4976 () p0 p1 p2 p3 p4 := by
  obtain ⟨c, hc, e⟩ := pk_andE p0 (m := 7) 3 (by decide)
  unfold wpL_lawOf
  refine ⟨by decide, by decide, 10, 574, by decide, by decide, qs_init (c := c) (by omega) (by decide) (by decide) ?_⟩
  intro f g k a1 a2 a3 a4 a5 a6 a7 a8 a9 a10 hR
  refine nm_r e (nm_r (nI_add c 8) ?_)
  exact br_c (fun _ => qs_L33 (s := false) hp hR) (fun _ => qs_L33 (s := true) hp hR)
theorem qs_cell {post : Int32 → Prop} {L : Nat} {xs : Nat → Int32} (j : Nat) (hL : L ≤ 5) (hj : j < 5) (h : ∀ r, post r) : wpL_cellAt post L xs () (nI j) := by
  unfold wpL_cellAt
  exact pk_le L j (fun _ => h _) (fun z => ⟨pk_in j L z, h _⟩)
end
end
section
theorem i_vc (xs : Nat → Int32) (L : Nat) (hL : L ≤ 5) : wpL_law (fun r => r = 1) L xs := by
  unfold wpL_law
  refine qs_cell 0 hL (by decide) (fun r1 => qs_cell 1 hL (by decide) (fun r2 => qs_cell 2 hL (by decide) (fun r3 => qs_cell 3 hL (by decide) (fun r4 => qs_cell 4 hL (by decide) (fun r5 => ?_)))))
  exact ⟨312, 4976, by decide, by decide, qs_lawOf rfl⟩
end

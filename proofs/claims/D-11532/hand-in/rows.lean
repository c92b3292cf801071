section
/-- the int of a small whole number -/
def cz_I (n : Int) : Int32 := Int32.ofInt n
theorem cz_toInt {n : Int} (h : -100000 ≤ n ∧ n ≤ 100000) : (cz_I n).toInt = n := Int32.toInt_ofInt_of_le (by omega) (by omega)
theorem cz_nat (n : Nat) : nI n = cz_I n := (Int32.ofInt_eq_ofNat).symm
theorem cz_add (a b : Int) : cz_I a + cz_I b = cz_I (a + b) := (Int32.ofInt_add a b).symm
theorem cz_sub (a b : Int) : cz_I a - cz_I b = cz_I (a - b) := (Int32.ofInt_sub a b).symm
theorem cz_neg (a : Int) : -cz_I a = cz_I (-a) := (Int32.ofInt_neg a).symm
theorem cz_leI {a b : Int} (ha : -100000 ≤ a ∧ a ≤ 100000) (hb : -100000 ≤ b ∧ b ≤ 100000) : cz_I a ≤ cz_I b ↔ a ≤ b := by
  rw [Int32.le_iff_toInt_le, cz_toInt ha, cz_toInt hb]
theorem cz_ltI {a b : Int} (ha : -100000 ≤ a ∧ a ≤ 100000) (hb : -100000 ≤ b ∧ b ≤ 100000) : cz_I a < cz_I b ↔ a < b := by
  rw [Int32.lt_iff_toInt_lt, cz_toInt ha, cz_toInt hb]
theorem cz_eqI {a b : Int} (ha : -100000 ≤ a ∧ a ≤ 100000) (hb : -100000 ≤ b ∧ b ≤ 100000) : cz_I a = cz_I b ↔ a = b := by
  rw [← Int32.toInt_inj, cz_toInt ha, cz_toInt hb]
/-- a comparison of two small whole numbers -/
theorem cz_ble {x y : Int32} {A B : Prop} (a b : Int) (hx : x = cz_I a) (hy : y = cz_I b) (ha : -100000 ≤ a ∧ a ≤ 100000) (hb : -100000 ≤ b ∧ b ≤ 100000) (f : a ≤ b → A) (g : b < a → B) : (x ≤ y → A) ∧ (¬ x ≤ y → B) := by
  subst hx hy
  rw [cz_leI ha hb]
  exact ⟨f, fun z => g (by omega)⟩
theorem cz_blt {x y : Int32} {A B : Prop} (a b : Int) (hx : x = cz_I a) (hy : y = cz_I b) (ha : -100000 ≤ a ∧ a ≤ 100000) (hb : -100000 ≤ b ∧ b ≤ 100000) (f : a < b → A) (g : b ≤ a → B) : (x < y → A) ∧ (¬ x < y → B) := by
  subst hx hy
  rw [cz_ltI ha hb]
  exact ⟨f, fun z => g (by omega)⟩
/-- the places of a table -/
theorem cz_x16 (z k : Nat) : (16 : Int32) * nI z + nI k = nI (16 * z + k) := by
  rw [show (16 : Int32) = nI 16 from rfl, pk_mul, nI_add]
theorem cz_x4 (i j : Nat) : (4 : Int32) * nI i + nI j = nI (4 * i + j) := by
  rw [show (4 : Int32) = nI 4 from rfl, pk_mul, nI_add]
theorem cz_x164 (z i j : Nat) : (16 : Int32) * nI z + 4 * nI i + nI j = nI (16 * z + 4 * i + j) := by
  rw [show (16 : Int32) = nI 16 from rfl, show (4 : Int32) = nI 4 from rfl, pk_mul, pk_mul, nI_add, nI_add]
theorem cz_x16m (z i : Nat) : (16 : Int32) * nI z + 4 * nI i = nI (16 * z + 4 * i) := by
  rw [show (16 : Int32) = nI 16 from rfl, show (4 : Int32) = nI 4 from rfl, pk_mul, pk_mul, nI_add]
theorem cz_d4 {k : Nat} (h : k < 16) : nI k / 4 = nI (k / 4) := pk_div (d := 4) (by omega) (by omega) (by omega)
theorem cz_r4 {k : Nat} (h : k < 16) : nI k - nI k / 4 * 4 = nI (k % 4) := pk_rem (d := 4) (by omega) (by omega) (by omega)
/-- table W stands in zone z of the array a -/
def cz_T (a : Nat → Int32) (z : Nat) (W : Nat → Nat → Int) : Prop := ∀ p q, p < 4 → q < 4 → a (16 * z + 4 * p + q) = cz_I (W p q)
/-- table W stands in the work array -/
def cz_K (a : Nat → Int32) (W : Nat → Nat → Int) : Prop := ∀ p q, p < 4 → q < 4 → a (4 * p + q) = cz_I (W p q)
theorem cz_T_flat {a : Nat → Int32} {z : Nat} {W : Nat → Nat → Int} (h : cz_T a z W) {k : Nat} (hk : k < 16) : a (16 * z + k) = cz_I (W (k / 4) (k % 4)) := by
  have e := h (k / 4) (k % 4) (by omega) (by omega)
  rw [show 16 * z + 4 * (k / 4) + k % 4 = 16 * z + k by omega] at e
  exact e
theorem cz_T_of {a : Nat → Int32} {z : Nat} {W : Nat → Nat → Int} (h : ∀ k, k < 16 → a (16 * z + k) = cz_I (W (k / 4) (k % 4))) : cz_T a z W := by
  intro p q hp hq
  have e := h (4 * p + q) (by omega)
  rw [show (4 * p + q) / 4 = p by omega, show (4 * p + q) % 4 = q by omega] at e
  rw [show 16 * z + 4 * p + q = 16 * z + (4 * p + q) by omega]
  exact e
end
section
/-- a closed table: 0 on the diagonal, no bound greater than a way over a third clock, none above 12 -/
def cz_C (W : Nat → Nat → Int) : Prop := (∀ i, i < 4 → W i i = 0) ∧ (∀ i j k, i < 4 → j < 4 → k < 4 → W i j ≤ W i k + W k j) ∧ (∀ i j, i < 4 → j < 4 → W i j ≤ 12)
/-- a reading keeps all the bounds -/
def cz_In (W : Nat → Nat → Int) (x : Nat → Int) : Prop := ∀ i j, i < 4 → j < 4 → x i - x j ≤ W i j
/-- the table with the bound i, j made c, closed again -/
def cz_N (W : Nat → Nat → Int) (i j : Nat) (c : Int) (p q : Nat) : Int := if W p q ≤ W p i + c + W j q then W p q else W p i + c + W j q
theorem cz_C_lo {W : Nat → Nat → Int} (h : cz_C W) {i j : Nat} (hi : i < 4) (hj : j < 4) : -12 ≤ W i j := by
  have h1 := h.2.1 i i j hi hi hj
  have h2 := h.1 i hi
  have h3 := h.2.2 j i hj hi
  omega
theorem cz_C_bd {W : Nat → Nat → Int} (h : cz_C W) {i j : Nat} (hi : i < 4) (hj : j < 4) : -100000 ≤ W i j ∧ W i j ≤ 100000 := by
  have h1 := cz_C_lo h hi hj
  have h2 := h.2.2 i j hi hj
  omega
theorem cz_N_i {W : Nat → Nat → Int} {i j : Nat} {c : Int} (hc : 0 ≤ c + W j i) (p : Nat) : cz_N W i j c p i = W p i := by
  unfold cz_N
  split
  · rfl
  · omega
theorem cz_N_j {W : Nat → Nat → Int} {i j : Nat} {c : Int} (hc : 0 ≤ c + W j i) (q : Nat) : cz_N W i j c j q = W j q := by
  unfold cz_N
  split
  · rfl
  · omega
theorem cz_N_C {W : Nat → Nat → Int} (h : cz_C W) {i j : Nat} {c : Int} (hi : i < 4) (hj : j < 4) (hc : 0 ≤ c + W j i) : cz_C (cz_N W i j c) := by
  refine ⟨fun p hp => ?_, fun p q r hp hq hr => ?_, fun p q hp hq => ?_⟩
  · have h1 := h.1 p hp
    have h2 := h.2.1 j i p hj hi hp
    unfold cz_N
    split
    · exact h1
    · omega
  · have h1 := h.2.1 p q r hp hq hr
    have h2 := h.2.1 p i r hp hi hr
    have h3 := h.2.1 j q r hj hq hr
    have h4 := h.2.1 j i r hj hi hr
    unfold cz_N
    split <;> split <;> split <;> omega
  · have h1 := h.2.2 p q hp hq
    unfold cz_N
    split <;> omega
theorem cz_N_In {W : Nat → Nat → Int} (h : cz_C W) {i j : Nat} {c : Int} (hi : i < 4) (hj : j < 4) (x : Nat → Int) : cz_In (cz_N W i j c) x ↔ cz_In W x ∧ x i - x j ≤ c := by
  constructor
  · intro hx
    refine ⟨fun p q hp hq => ?_, ?_⟩
    · have h1 := hx p q hp hq
      unfold cz_N at h1
      split at h1 <;> omega
    · have h1 := hx i j hi hj
      have h2 := h.1 i hi
      have h3 := h.1 j hj
      unfold cz_N at h1
      split at h1 <;> omega
  · intro hx p q hp hq
    have h1 := hx.1 p q hp hq
    have h2 := hx.1 p i hp hi
    have h3 := hx.1 j q hj hq
    have h4 := hx.2
    unfold cz_N
    split <;> omega
/-- a closed table has a reading -/
theorem cz_C_pt {W : Nat → Nat → Int} (h : cz_C W) : cz_In W (fun i => W i 0) := by
  intro i j hi hj
  have h1 := h.2.1 i 0 j hi (by omega) hj
  show W i 0 - W j 0 ≤ W i j
  omega
def cz_pt (a b c : Int) : Nat → Int
  | 0 => 0
  | 1 => a
  | 2 => b
  | _ => c
theorem cz_pt_eq {x : Nat → Int} {a b c : Int} (h1 : x 1 - x 0 = a) (h2 : x 2 - x 0 = b) (h3 : x 3 - x 0 = c) {i : Nat} (hi : i < 4) : cz_pt a b c i = x i - x 0 := by
  match i, hi with
  | 0, _ => show (0 : Int) = x 0 - x 0; omega
  | 1, _ => exact h1.symm
  | 2, _ => exact h2.symm
  | 3, _ => exact h3.symm
theorem cz_pt_in {W : Nat → Nat → Int} {x : Nat → Int} {a b c : Int} (h : cz_In W x) (h1 : x 1 - x 0 = a) (h2 : x 2 - x 0 = b) (h3 : x 3 - x 0 = c) : cz_In W (cz_pt a b c) := by
  intro i j hi hj
  rw [cz_pt_eq h1 h2 h3 hi, cz_pt_eq h1 h2 h3 hj]
  have e := h i j hi hj
  omega
theorem cz_pt_bd {a b c : Int} (ha : 0 ≤ a ∧ a ≤ 12) (hb : 0 ≤ b ∧ b ≤ 12) (hc : 0 ≤ c ∧ c ≤ 12) (i : Nat) : 0 ≤ cz_pt a b c i ∧ cz_pt a b c i ≤ 12 := by
  match i with
  | 0 => exact ⟨Int.le_refl 0, show (0 : Int) ≤ 12 by decide⟩
  | 1 => exact ha
  | 2 => exact hb
  | (n + 3) => exact hc
/-- the reading of a number below 2197 -/
def cz_P (p : Nat) : Nat → Int := cz_pt ((p / 169 : Nat) : Int) ((p / 13 % 13 : Nat) : Int) ((p % 13 : Nat) : Int)
theorem cz_P_bd {p : Nat} (hp : p < 2197) (i : Nat) : 0 ≤ cz_P p i ∧ cz_P p i ≤ 12 := cz_pt_bd (by omega) (by omega) (by omega) i
theorem cz_P_of {a b c : Nat} (ha : a ≤ 12) (hb : b ≤ 12) (hc : c ≤ 12) : cz_P (169 * a + 13 * b + c) = cz_pt (a : Int) (b : Int) (c : Int) := by
  unfold cz_P
  rw [show (169 * a + 13 * b + c) / 169 = a by omega, show (169 * a + 13 * b + c) / 13 % 13 = b by omega, show (169 * a + 13 * b + c) % 13 = c by omega]
/-- the table of one reading -/
def cz_D (y : Nat → Int) (p q : Nat) : Int := y p - y q
/-- the hull of two tables -/
def cz_M (V W : Nat → Nat → Int) (p q : Nat) : Int := if W p q ≤ V p q then V p q else W p q
theorem cz_D_C {y : Nat → Int} (h : ∀ i, 0 ≤ y i ∧ y i ≤ 12) : cz_C (cz_D y) := by
  refine ⟨fun i _ => ?_, fun i j k _ _ _ => ?_, fun i j _ _ => ?_⟩
  · unfold cz_D
    omega
  · unfold cz_D
    omega
  · have h1 := h i
    have h2 := h j
    unfold cz_D
    omega
theorem cz_M_C {V W : Nat → Nat → Int} (hV : cz_C V) (hW : cz_C W) : cz_C (cz_M V W) := by
  refine ⟨fun i hi => ?_, fun i j k hi hj hk => ?_, fun i j hi hj => ?_⟩
  · have h1 := hV.1 i hi
    have h2 := hW.1 i hi
    unfold cz_M
    split <;> omega
  · have h1 := hV.2.1 i j k hi hj hk
    have h2 := hW.2.1 i j k hi hj hk
    unfold cz_M
    split <;> split <;> split <;> omega
  · have h1 := hV.2.2 i j hi hj
    have h2 := hW.2.2 i j hi hj
    unfold cz_M
    split <;> omega
theorem cz_M_In {u : Nat → Int} {W : Nat → Nat → Int} : cz_In (cz_M (cz_D u) W) u := by
  intro i j _ _
  unfold cz_M cz_D
  split <;> omega
theorem cz_M_le {V W : Nat → Nat → Int} (p q : Nat) : W p q ≤ cz_M V W p q := by
  unfold cz_M
  split <;> omega
end
section
theorem cz_isZone {post : Int32 → Prop} {z : Nat} (hz : z < 3) (H : post 1) : wpX_isZone post () (nI z) :=
  pk_lt z 0 (fun h => absurd h (by omega)) (fun _ => pk_lt 2 z (fun h => absurd h (by omega)) (fun _ => H))
theorem cz_isClock {post : Int32 → Prop} {k : Nat} (h1 : 1 ≤ k) (h3 : k ≤ 3) (H : post 1) : wpX_isClock post () (nI k) :=
  pk_lt k 1 (fun h => absurd h (by omega)) (fun _ => pk_lt 3 k (fun h => absurd h (by omega)) (fun _ => H))
theorem cz_isPair {post : Int32 → Prop} {i j : Nat} (hi : i < 4) (hj : j < 4) (hij : i ≠ j) (H : post 1) : wpX_isPair post () (nI i) (nI j) :=
  pk_lt i 0 (fun h => absurd h (by omega)) (fun _ => pk_lt 3 i (fun h => absurd h (by omega)) (fun _ =>
    pk_lt j 0 (fun h => absurd h (by omega)) (fun _ => pk_lt 3 j (fun h => absurd h (by omega)) (fun _ =>
      pk_eq i j (fun h => absurd h hij) (fun _ => H)))))
theorem cz_boxBound {post : Int32 → Prop} {p q : Int32} (H : ∀ r, post r) : wpX_boxBound post () p q :=
  ⟨fun _ => H 0, fun _ => ⟨fun _ => H 0, fun _ => H 12⟩⟩
theorem cz_all_18 {post : Int32 → St2 → Prop} {z : Nat} (hz : z < 3) {a1 a2 a3 : Nat → Int32} (H : ∀ a, post 0 (a, a2, a3)) : ∃ n, wX_all_18 post (nI z) n 0 a1 a2 a3 :=
  pk_loop (fun n i s => wX_all_18 post (nI z) n (nI i) s a2 a3) (fun _ _ => True) 16 0 a1 (by omega) trivial
    (fun n s _ => pk_le 16 16 (fun _ => H s) (fun h => absurd h (by omega)))
    (fun n i s hi _ hw => pk_le 16 i (fun h => absurd h (by omega)) (fun _ => ⟨by decide, by decide, cz_boxBound (fun r => ⟨pk_in (16 * z + i) 48 (by omega) (cz_x16 z i), nm_e (nm_r (nI_1 i) (hw _ trivial))⟩)⟩))
theorem cz_all {post : Int32 → St2 → Prop} {z : Nat} (hz : z < 3) {a1 a2 a3 : Nat → Int32} (H : ∀ a b, post 0 (a, b, a3)) : wpX_all post (a1, a2, a3) (nI z) := by
  unfold wpX_all
  dsimp only
  exact cz_isZone hz (br_f (by decide) ⟨pk_in z 3 hz, nm_e (cz_all_18 hz (fun a => H a _))⟩)
theorem cz_init {post : St2 → Prop} {mc ms : Nat} (h1 : 3 ≤ mc) (h2 : 67 ≤ ms) (H : ∀ a b c, post (a, b, c)) : wpX_init post mc ms () :=
  ⟨by omega, by omega, by omega, by omega, h1, h2,
    pk_loop (fun n i (s : St2) => wX_init_29 post mc ms 3 67 n (nI i) s.1 s.2.1 s.2.2) (fun _ _ => True) 3 0 (fun _ => 0, fun _ => 0, fun _ => 0) (by omega) trivial
      (fun n s _ => pk_le 3 3 (fun _ => H s.1 s.2.1 s.2.2) (fun h => absurd h (by omega)))
      (fun n i s hi _ hw => pk_le 3 i (fun h => absurd h (by omega)) (fun _ => cz_all hi (fun a b => nm_r (nI_1 i) (hw (a, b, s.2.2) trivial))))⟩
theorem cz_zero_18 {post : Int32 → St2 → Prop} {z : Nat} (hz : z < 3) {a1 a2 a3 : Nat → Int32} (H : ∀ a, (∀ k, k < 16 → a (16 * z + k) = 0) → (∀ m, (m < 16 * z ∨ 16 * z + 16 ≤ m) → a m = a1 m) → post 0 (a, a2, a3)) : ∃ n, wX_zero_18 post (nI z) n 0 a1 a2 a3 :=
  pk_loop (fun n i s => wX_zero_18 post (nI z) n (nI i) s a2 a3) (fun i s => (∀ k, k < i → s (16 * z + k) = 0) ∧ (∀ m, (m < 16 * z ∨ 16 * z + 16 ≤ m) → s m = a1 m)) 16 0 a1 (by omega) ⟨fun k hk => absurd hk (by omega), fun _ _ => rfl⟩
    (fun n s h => pk_le 16 16 (fun _ => H s h.1 h.2) (fun h => absurd h (by omega)))
    (fun n i s hi h hw => pk_le 16 i (fun h => absurd h (by omega)) (fun _ => ⟨pk_in (16 * z + i) 48 (by omega) (cz_x16 z i), nm_r (by rw [cz_x16, nI_clamp (by omega)]) (nm_r (nI_1 i) (hw (upd s (16 * z + i) 0) ⟨fun k hk => by
        by_cases e : k = i
        · rw [e, pk_us]
        · rw [pk_un (by omega)]
          exact h.1 k (by omega), fun m hm => by
        rw [pk_un (by omega)]
        exact h.2 m hm⟩))⟩))
theorem cz_zero {post : Int32 → St2 → Prop} {z : Nat} (hz : z < 3) {a1 a2 a3 : Nat → Int32} (H : ∀ a, (∀ k, k < 16 → a (16 * z + k) = 0) → (∀ m, (m < 16 * z ∨ 16 * z + 16 ≤ m) → a m = a1 m) → post 0 (a, upd a2 z 0, a3)) : wpX_zero post (a1, a2, a3) (nI z) := by
  unfold wpX_zero
  dsimp only
  exact cz_isZone hz (br_f (by decide) ⟨pk_in z 3 hz, nm_r (by rw [nI_clamp (by omega)]) (cz_zero_18 hz H)⟩)
theorem cz_left {post : Int32 → Prop} {z : Nat} (hz : z < 3) {a1 a2 a3 : Nat → Int32} (h0 : a2 z = 0) (H : post 1) : wpX_left post (a1, a2, a3) (nI z) :=
  ⟨pk_in z 3 hz, br_t (by rw [nI_clamp (by omega)]; exact h0) H⟩
/-- the reading y with clock k at n -/
def cz_S (y : Nat → Int) (k : Nat) (n : Int) (i : Nat) : Int := if i = k then n else y i
/-- the table under way in set: what is written has the new reading -/
def cz_E (y : Nat → Int) (k : Nat) (n : Int) (J p q : Nat) : Int := if (p = k ∧ q < J) ∨ (q = k ∧ p < J) then cz_S y k n p - cz_S y k n q else y p - y q
theorem cz_E_0 (y : Nat → Int) (k : Nat) (n : Int) (p q : Nat) : cz_E y k n 0 p q = y p - y q := if_neg (by omega)
theorem cz_E_4 (y : Nat → Int) (k : Nat) (n : Int) {p q : Nat} (hp : p < 4) (hq : q < 4) : cz_E y k n 4 p q = cz_D (cz_S y k n) p q := by
  unfold cz_E cz_D
  split
  · rfl
  · unfold cz_S
    rw [if_neg (show ¬ p = k by omega), if_neg (show ¬ q = k by omega)]
theorem cz_E_skip (y : Nat → Int) (k : Nat) (n : Int) (p q : Nat) : cz_E y k n (k + 1) p q = cz_E y k n k p q := by
  unfold cz_E
  by_cases e : p = k ∧ q = k
  · rw [e.1, e.2, if_pos (by omega), if_neg (by omega)]
    omega
  · by_cases f : (p = k ∧ q < k) ∨ (q = k ∧ p < k)
    · rw [if_pos f, if_pos (by omega)]
    · rw [if_neg f, if_neg (by omega)]
theorem cz_E_step {y : Nat → Int} {k : Nat} {n : Int} {J p q : Nat} (h1 : ¬ (p = k ∧ q = J)) (h2 : ¬ (p = J ∧ q = k)) : cz_E y k n (J + 1) p q = cz_E y k n J p q := by
  unfold cz_E
  by_cases f : (p = k ∧ q < J) ∨ (q = k ∧ p < J)
  · rw [if_pos f, if_pos (by omega)]
  · rw [if_neg f, if_neg (by omega)]
theorem cz_E_r0 {y : Nat → Int} {k : Nat} {n : Int} {J : Nat} (h0 : y 0 = 0) (hk : 1 ≤ k) (hJ : J ≠ k) : cz_E y k n J 0 J = -y J := by
  unfold cz_E
  rw [if_neg (by omega), h0]
  omega
theorem cz_E_c0 {y : Nat → Int} {k : Nat} {n : Int} {J : Nat} (h0 : y 0 = 0) (hk : 1 ≤ k) (hJ : J ≠ k) : cz_E y k n J J 0 = y J := by
  unfold cz_E
  rw [if_neg (by omega), h0]
  omega
theorem cz_E_rk {y : Nat → Int} {k : Nat} {n : Int} {J : Nat} (hJ : J ≠ k) : cz_E y k n (J + 1) k J = n - y J := by
  unfold cz_E cz_S
  rw [if_pos (by omega), if_pos rfl, if_neg hJ]
theorem cz_E_ck {y : Nat → Int} {k : Nat} {n : Int} {J : Nat} (hJ : J ≠ k) : cz_E y k n (J + 1) J k = y J - n := by
  unfold cz_E cz_S
  rw [if_pos (by omega), if_pos rfl, if_neg hJ]
theorem cz_set_upd {s : Nat → Int32} {z k J : Nat} {y : Nat → Int} {n : Int} (hk : k < 4) (hJ : J < 4) (hJk : J ≠ k) (h : cz_T s z (cz_E y k n J)) :
    cz_T (upd (upd s (16 * z + 4 * k + J) (cz_I (n - y J))) (16 * z + 4 * J + k) (cz_I (y J - n))) z (cz_E y k n (J + 1)) := by
  intro p q hp hq
  by_cases e2 : p = J ∧ q = k
  · rw [e2.1, e2.2, pk_us, cz_E_ck hJk]
  · rw [pk_un (by omega)]
    by_cases e1 : p = k ∧ q = J
    · rw [e1.1, e1.2, pk_us, cz_E_rk hJk]
    · rw [pk_un (by omega), cz_E_step e1 e2]
      exact h p q hp hq
theorem cz_set_35 {post : Int32 → St2 → Prop} {z k n : Nat} (hz : z < 3) (hk1 : 1 ≤ k) (hk3 : k ≤ 3) {a1 a2 a3 : Nat → Int32} {y : Nat → Int} (h0 : a2 z = 0) (hy : y 0 = 0) (hT : cz_T a1 z (cz_D y))
    (H : ∀ a, cz_T a z (cz_D (cz_S y k n)) → (∀ m, (m < 16 * z ∨ 16 * z + 16 ≤ m) → a m = a1 m) → post 1 (a, a2, a3)) : ∃ f, wX_set_35 post (nI z) (nI k) (nI n) f 0 a1 a2 a3 :=
  pk_loop (fun f i s => wX_set_35 post (nI z) (nI k) (nI n) f (nI i) s a2 a3) (fun i s => cz_T s z (cz_E y k n i) ∧ (∀ m, (m < 16 * z ∨ 16 * z + 16 ≤ m) → s m = a1 m)) 4 0 a1 (by omega)
    ⟨fun p q hp hq => by rw [cz_E_0]; exact hT p q hp hq, fun _ _ => rfl⟩
    (fun f s h => pk_le 4 4 (fun _ => cz_left hz h0 (H s (fun p q hp hq => by rw [← cz_E_4 y k n hp hq]; exact h.1 p q hp hq) h.2)) (fun h => absurd h (by omega)))
    (fun f i s hi h hw => pk_le 4 i (fun h => absurd h (by omega)) (fun _ => ⟨pk_in z 3 hz, br_t (by rw [nI_clamp (by omega)]; exact h0)
      (pk_eq i k (fun e => nm_r (nI_1 i) (hw s ⟨fun p q hp hq => by subst e; rw [cz_E_skip]; exact h.1 p q hp hq, h.2⟩))
        (fun e => ⟨pk_in (16 * z + i) 48 (by omega) (cz_x16 z i), pk_in (16 * z + 4 * k + i) 48 (by omega) (cz_x164 z k i),
          nm_r (e' := upd s (16 * z + 4 * k + i) (cz_I (n - y i))) (by
            have g := h.1 0 i (by omega) hi
            rw [show 16 * z + 4 * 0 + i = 16 * z + i by omega, cz_E_r0 hy hk1 e] at g
            rw [cz_x164, cz_x16, nI_clamp (by omega), nI_clamp (by omega), g, cz_nat n, cz_add, show (n : Int) + -y i = n - y i by omega])
          ⟨pk_in (16 * z + 4 * i) 48 (by omega) (cz_x16m z i), pk_in (16 * z + 4 * i + k) 48 (by omega) (cz_x164 z i k),
            nm_r (e' := upd (upd s (16 * z + 4 * k + i) (cz_I (n - y i))) (16 * z + 4 * i + k) (cz_I (y i - n))) (by
              have g := h.1 i 0 hi (by omega)
              rw [show 16 * z + 4 * i + 0 = 16 * z + 4 * i by omega, cz_E_c0 hy hk1 e] at g
              rw [cz_x164, cz_x16m, nI_clamp (by omega), nI_clamp (by omega), pk_un (show 16 * z + 4 * i ≠ 16 * z + 4 * k + i by omega), g, cz_nat n, cz_sub])
            (nm_r (nI_1 i) (hw _ ⟨cz_set_upd (by omega) hi e h.1, fun m hm => by
              rw [pk_un (by omega), pk_un (by omega)]
              exact h.2 m hm⟩))⟩⟩))⟩))
theorem cz_set {post : Int32 → St2 → Prop} {z k n : Nat} (hz : z < 3) (hk1 : 1 ≤ k) (hk3 : k ≤ 3) (hn : n ≤ 12) {a1 a2 a3 : Nat → Int32} {y : Nat → Int} (h0 : a2 z = 0) (hy : y 0 = 0) (hT : cz_T a1 z (cz_D y))
    (H : ∀ a, cz_T a z (cz_D (cz_S y k n)) → (∀ m, (m < 16 * z ∨ 16 * z + 16 ≤ m) → a m = a1 m) → post 1 (a, a2, a3)) : wpX_set post (a1, a2, a3) (nI z) (nI k) (nI n) := by
  unfold wpX_set
  dsimp only
  exact cz_isZone hz (br_f (by decide) (cz_isClock hk1 hk3 (br_f (by decide) (pk_lt n 0 (fun h => absurd h (by omega)) (fun _ => pk_le n 12 (fun _ => cz_set_35 hz hk1 hk3 h0 hy hT H) (fun h => absurd h (by omega)))))))
theorem cz_S3 (a b c : Int) {i : Nat} (hi : i < 4) : cz_S (cz_S (cz_S (fun _ => 0) 1 a) 2 b) 3 c i = cz_pt a b c i := by
  match i, hi with
  | 0, _ => rfl
  | 1, _ => rfl
  | 2, _ => rfl
  | 3, _ => rfl
theorem cz_point {post : St2 → Prop} {z p : Nat} (hz : z < 3) (hp : p < 2197) {a1 a2 a3 : Nat → Int32}
    (H : ∀ a, cz_T a z (cz_D (cz_P p)) → (∀ m, (m < 16 * z ∨ 16 * z + 16 ≤ m) → a m = a1 m) → post (a, upd a2 z 0, a3)) : wpL_point post (a1, a2, a3) (nI z) (nI p) := by
  have d1 : nI p / 169 = nI (p / 169) := pk_div (d := 169) (by omega) (by omega) (by omega)
  have d2 : nI p / 13 - nI p / 13 / 13 * 13 = nI (p / 13 % 13) := by
    rw [show nI p / 13 = nI (p / 13) from pk_div (d := 13) (by omega) (by omega) (by omega)]
    exact pk_rem (d := 13) (by omega) (by omega) (by omega)
  have d3 : nI p - nI p / 13 * 13 = nI (p % 13) := pk_rem (d := 13) (by omega) (by omega) (by omega)
  unfold wpL_point
  dsimp only
  rw [d1, d2, d3]
  refine cz_zero hz (fun b hb hbo => ⟨by decide, ?_⟩)
  refine cz_set (k := 1) (y := fun _ => 0) (a1 := b) (a2 := upd a2 z 0) (a3 := a3) hz (by omega) (by omega) (by omega) pk_us rfl (cz_T_of (fun k hk => by rw [hb k hk]; rfl)) (fun c hc hco => ⟨by decide, by decide, ?_⟩)
  refine cz_set (k := 2) (y := cz_S (fun _ => 0) 1 ((p / 169 : Nat) : Int)) (a1 := c) (a2 := upd a2 z 0) (a3 := a3) hz (by omega) (by omega) (by omega) pk_us rfl hc (fun d hd hdo => ⟨by decide, ?_⟩)
  refine cz_set (k := 3) (y := cz_S (cz_S (fun _ => 0) 1 ((p / 169 : Nat) : Int)) 2 ((p / 13 % 13 : Nat) : Int)) (a1 := d) (a2 := upd a2 z 0) (a3 := a3) hz (by omega) (by omega) (by omega) pk_us rfl hd (fun e he heo => ?_)
  refine H e (fun i j hi hj => ?_) (fun m hm => ?_)
  · rw [he i j hi hj]
    show cz_I (_ - _) = cz_I (cz_pt _ _ _ i - cz_pt _ _ _ j)
    rw [cz_S3 _ _ _ hi, cz_S3 _ _ _ hj]
  · rw [heo m hm, hdo m hm, hco m hm, hbo m hm]
end
section
theorem cz_0 : (0 : Int32) = cz_I 0 := by decide
theorem cz_1 : (1 : Int32) = cz_I 1 := by decide
/-- a table under way: places below i have F, the others G -/
def cz_X (F G : Nat → Nat → Int) (i k : Nat) : Int := if k < i then F (k / 4) (k % 4) else G (k / 4) (k % 4)
theorem cz_X_at (F G : Nat → Nat → Int) (i : Nat) : cz_X F G i i = G (i / 4) (i % 4) := if_neg (by omega)
theorem cz_X_0 (F G : Nat → Nat → Int) (k : Nat) : cz_X F G 0 k = G (k / 4) (k % 4) := if_neg (by omega)
theorem cz_X_16 (F G : Nat → Nat → Int) {k : Nat} (hk : k < 16) : cz_X F G 16 k = F (k / 4) (k % 4) := if_pos hk
theorem cz_X_new (F G : Nat → Nat → Int) (i : Nat) : cz_X F G (i + 1) i = F (i / 4) (i % 4) := if_pos (by omega)
theorem cz_X_old (F G : Nat → Nat → Int) {i k : Nat} (h : k ≠ i) : cz_X F G (i + 1) k = cz_X F G i k := by
  unfold cz_X
  by_cases e : k < i
  · rw [if_pos e, if_pos (by omega)]
  · rw [if_neg e, if_neg (by omega)]
theorem cz_M_l {V W : Nat → Nat → Int} {p q : Nat} (h : W p q ≤ V p q) : cz_M V W p q = V p q := if_pos h
theorem cz_M_r {V W : Nat → Nat → Int} {p q : Nat} (h : V p q < W p q) : cz_M V W p q = W p q := if_neg (by omega)
theorem cz_N_l {W : Nat → Nat → Int} {i j p q : Nat} {c : Int} (h : W p q ≤ W p i + c + W j q) : cz_N W i j c p q = W p q := if_pos h
theorem cz_N_r {W : Nat → Nat → Int} {i j p q : Nat} {c : Int} (h : W p i + c + W j q < W p q) : cz_N W i j c p q = W p i + c + W j q := if_neg (by omega)
/-- the hull's loop: what holds at i -/
def cz_HI (a1 : Nat → Int32) (y : Nat) (V W : Nat → Nat → Int) (i : Nat) (s : Nat → Int32) : Prop := (∀ k, k < 16 → s (16 * y + k) = cz_I (cz_X (cz_M V W) V i k)) ∧ (∀ m, (m < 16 * y ∨ 16 * y + 16 ≤ m) → s m = a1 m)
theorem cz_HI_step {a1 : Nat → Int32} {y : Nat} {V W : Nat → Nat → Int} {i : Nat} {s : Nat → Int32} {e : Int} (hi : i < 16) (h : cz_HI a1 y V W i s) (he : cz_M V W (i / 4) (i % 4) = e) : cz_HI a1 y V W (i + 1) (upd s (16 * y + i) (cz_I e)) := by
  refine ⟨fun k hk => ?_, fun m hm => ?_⟩
  · by_cases g : k = i
    · rw [g, pk_us, cz_X_new, he]
    · rw [pk_un (by omega), cz_X_old _ _ g]
      exact h.1 k hk
  · rw [pk_un (by omega)]
    exact h.2 m hm
theorem cz_hull_46 {post : Int32 → St2 → Prop} {y z : Nat} (hy : y < 3) (hz : z < 3) (hyz : y ≠ z) {a1 a2 a3 : Nat → Int32} {V W : Nat → Nat → Int} (hV : cz_T a1 y V) (hW : cz_T a1 z W) (cV : cz_C V) (cW : cz_C W) (h0 : a2 y = 0)
    (H : ∀ a, cz_T a y (cz_M V W) → (∀ m, (m < 16 * y ∨ 16 * y + 16 ≤ m) → a m = a1 m) → post 1 (a, a2, a3)) : ∃ f, wX_hull_46 post (nI y) (nI z) f 0 a1 a2 a3 := by
  refine pk_loop (fun f i s => wX_hull_46 post (nI y) (nI z) f (nI i) s a2 a3) (cz_HI a1 y V W) 16 0 a1 (by omega) ⟨fun k hk => ?_, fun _ _ => rfl⟩ (fun f s h => pk_le 16 16 (fun _ => cz_left hy h0 (H s (cz_T_of (fun k hk => ?_)) h.2)) (fun h => absurd h (by omega))) (fun f i s hi h hw => pk_le 16 i (fun h => absurd h (by omega)) (fun _ => ?_))
  · rw [cz_X_0]
    exact cz_T_flat hV hk
  · rw [h.1 k hk, cz_X_16 _ _ hk]
  · have ez : s ((16 * nI z + nI i).toNatClampNeg) = cz_I (W (i / 4) (i % 4)) := by
      rw [cz_x16, nI_clamp (by omega), h.2 (16 * z + i) (by omega)]
      exact cz_T_flat hW hi
    have ey : s ((16 * nI y + nI i).toNatClampNeg) = cz_I (V (i / 4) (i % 4)) := by
      rw [cz_x16, nI_clamp (by omega), h.1 i hi, cz_X_at]
    have ci : (16 * nI y + nI i).toNatClampNeg = 16 * y + i := by rw [cz_x16, nI_clamp (by omega)]
    have iy : vp_in (16 * nI y + nI i) 48 := pk_in (16 * y + i) 48 (by omega) (cz_x16 y i)
    refine ⟨pk_in (16 * z + i) 48 (by omega) (cz_x16 z i), nm_r ez ⟨iy, cz_ble _ _ rfl ey (cz_C_bd cW (by omega) (by omega)) (cz_C_bd cV (by omega) (by omega)) (fun hl => ⟨iy, iy, ?_⟩) (fun hl => ⟨iy, ?_⟩)⟩⟩
    · exact nm_r (by rw [ey, ci]) (nm_r (nI_1 i) (hw _ (cz_HI_step hi h (cz_M_l hl))))
    · exact nm_r (by rw [ci]) (nm_r (nI_1 i) (hw _ (cz_HI_step hi h (cz_M_r hl))))
theorem cz_hull {post : Int32 → St2 → Prop} {y z : Nat} (hy : y < 3) (hz : z < 3) (hyz : y ≠ z) {a1 a2 a3 : Nat → Int32} {V W : Nat → Nat → Int} (hV : cz_T a1 y V) (hW : cz_T a1 z W) (cV : cz_C V) (cW : cz_C W) (h0 : a2 y = 0) (h1 : a2 z = 0)
    (H : ∀ a, cz_T a y (cz_M V W) → (∀ m, (m < 16 * y ∨ 16 * y + 16 ≤ m) → a m = a1 m) → post 1 (a, a2, a3)) : wpX_hull post (a1, a2, a3) (nI y) (nI z) := by
  unfold wpX_hull
  dsimp only
  exact cz_isZone hy (br_f (by decide) (cz_isZone hz (br_f (by decide) ⟨pk_in y 3 hy, br_t (by rw [nI_clamp (by omega)]; exact h0) ⟨pk_in z 3 hz, br_t (by rw [nI_clamp (by omega)]; exact h1) (cz_hull_46 hy hz hyz hV hW cV cW h0 H)⟩⟩)))
theorem cz_take {post : St2 → Prop} {z : Nat} (hz : z < 3) {a1 a2 a3 : Nat → Int32} {W : Nat → Nat → Int} (hT : cz_T a1 z W) (H : ∀ w, cz_K w W → post (a1, a2, w)) : wpX_take post (a1, a2, a3) (nI z) :=
  pk_loop (fun f i s => wX_take_2 post (nI z) f (nI i) a1 a2 s) (fun i s => ∀ k, k < i → s k = a1 (16 * z + k)) 16 0 a3 (by omega) (fun k hk => absurd hk (by omega))
    (fun f s h => pk_le 16 16 (fun _ => H s (fun p q hp hq => by
      rw [h (4 * p + q) (by omega), show 16 * z + (4 * p + q) = 16 * z + 4 * p + q by omega]
      exact hT p q hp hq)) (fun h => absurd h (by omega)))
    (fun f i s hi h hw => pk_le 16 i (fun h => absurd h (by omega)) (fun _ => ⟨pk_in (16 * z + i) 48 (by omega) (cz_x16 z i), pk_in i 16 hi, nm_r (e' := upd s i (a1 (16 * z + i))) (by rw [cz_x16, nI_clamp (by omega), nI_clamp (by omega)]) (nm_r (nI_1 i) (hw _ (fun k hk => by
      by_cases e : k = i
      · rw [e, pk_us]
      · rw [pk_un e]
        exact h k (by omega))))⟩))
/-- narrow's loop: what holds at k -/
def cz_NI (W : Nat → Nat → Int) (i j : Nat) (c : Int) (k : Nat) (s : Nat → Int32) : Prop := ∀ m, m < 16 → s m = cz_I (cz_X (cz_N W i j c) W k m)
theorem cz_NI_step {W : Nat → Nat → Int} {i j : Nat} {c : Int} {k : Nat} {s : Nat → Int32} {e : Int} (h : cz_NI W i j c k s) (he : cz_N W i j c (k / 4) (k % 4) = e) : cz_NI W i j c (k + 1) (upd s k (cz_I e)) := by
  intro m hm
  by_cases g : m = k
  · rw [g, pk_us, cz_X_new, he]
  · rw [pk_un g, cz_X_old _ _ g]
    exact h m hm
theorem cz_NI_i {W : Nat → Nat → Int} {i j : Nat} {c : Int} {k p : Nat} {s : Nat → Int32} (h : cz_NI W i j c k s) (hc : 0 ≤ c + W j i) (hp : p < 4) (hi : i < 4) : s (4 * p + i) = cz_I (W p i) := by
  rw [h (4 * p + i) (by omega)]
  unfold cz_X
  rw [show (4 * p + i) / 4 = p by omega, show (4 * p + i) % 4 = i by omega, cz_N_i hc p, ite_self]
theorem cz_NI_j {W : Nat → Nat → Int} {i j : Nat} {c : Int} {k q : Nat} {s : Nat → Int32} (h : cz_NI W i j c k s) (hc : 0 ≤ c + W j i) (hq : q < 4) (hj : j < 4) : s (4 * j + q) = cz_I (W j q) := by
  rw [h (4 * j + q) (by omega)]
  unfold cz_X
  rw [show (4 * j + q) / 4 = j by omega, show (4 * j + q) % 4 = q by omega, cz_N_j hc q, ite_self]
theorem cz_narrow_36 {post : Int32 → St2 → Prop} {i j : Nat} {c : Int} (hi : i < 4) (hj : j < 4) (hc : -12 ≤ c ∧ c ≤ 12) {a1 a2 a3 : Nat → Int32} {W : Nat → Nat → Int} (hK : cz_K a3 W) (hC : cz_C W) (h0 : 0 ≤ c + W j i)
    (H : ∀ w, cz_K w (cz_N W i j c) → post 1 (a1, a2, w)) : ∃ f, wX_narrow_36 post (nI i) (nI j) (cz_I c) f 0 a1 a2 a3 := by
  refine pk_loop (fun f k s => wX_narrow_36 post (nI i) (nI j) (cz_I c) f (nI k) a1 a2 s) (cz_NI W i j c) 16 0 a3 (by omega) (fun k hk => ?_) (fun f s h => pk_le 16 16 (fun _ => H s (fun p q hp hq => ?_)) (fun h => absurd h (by omega))) (fun f k s hk h hw => pk_le 16 k (fun h => absurd h (by omega)) (fun _ => ?_))
  · have e := hK (k / 4) (k % 4) (by omega) (by omega)
    rw [show 4 * (k / 4) + k % 4 = k by omega] at e
    rw [cz_X_0, e]
  · rw [h (4 * p + q) (by omega), cz_X_16 _ _ (by omega), show (4 * p + q) / 4 = p by omega, show (4 * p + q) % 4 = q by omega]
  · have hp : k / 4 < 4 := by omega
    have hq : k % 4 < 4 := by omega
    have e1 : s ((4 * nI (k / 4) + nI i).toNatClampNeg) = cz_I (W (k / 4) i) := by
      rw [cz_x4, nI_clamp (by omega)]
      exact cz_NI_i h h0 hp hi
    have e2 : s ((4 * nI j + nI (k % 4)).toNatClampNeg) = cz_I (W j (k % 4)) := by
      rw [cz_x4, nI_clamp (by omega)]
      exact cz_NI_j h h0 hq hj
    have ck : (nI k).toNatClampNeg = k := nI_clamp (by omega)
    have e3 : s ((nI k).toNatClampNeg) = cz_I (W (k / 4) (k % 4)) := by rw [ck, h k hk, cz_X_at]
    have ik : vp_in (nI k) 16 := pk_in k 16 hk
    have b1 := cz_C_lo hC hp hi
    have b2 := hC.2.2 _ _ hp hi
    have b3 := cz_C_lo hC hj hq
    have b4 := hC.2.2 _ _ hj hq
    refine ⟨by decide, nm_r (cz_d4 hk) ⟨by decide, nm_r (cz_r4 hk) ⟨pk_in (4 * (k / 4) + i) 16 (by omega) (cz_x4 _ _), pk_in (4 * j + k % 4) 16 (by omega) (cz_x4 _ _), nm_r (e' := cz_I (W (k / 4) i + c + W j (k % 4))) (by rw [e1, e2, cz_add, cz_add]) ⟨ik, cz_ble _ _ e3 rfl (cz_C_bd hC hp hq) (by omega) (fun hl => ⟨ik, ik, ?_⟩) (fun hl => ⟨ik, ?_⟩)⟩⟩⟩⟩
    · exact nm_r (by rw [e3, ck]) (nm_r (nI_1 k) (hw _ (cz_NI_step h (cz_N_l hl))))
    · exact nm_r (by rw [ck]) (nm_r (nI_1 k) (hw _ (cz_NI_step h (cz_N_r hl))))
theorem cz_narrow {post : Int32 → St2 → Prop} {i j : Nat} {c : Int} (hi : i < 4) (hj : j < 4) (hc : -12 ≤ c ∧ c ≤ 12) {a1 a2 a3 : Nat → Int32} {W : Nat → Nat → Int} (hK : cz_K a3 W) (hC : cz_C W)
    (H1 : ∀ w W', cz_K w W' → cz_C W' → (∀ x, cz_In W' x ↔ cz_In W x ∧ x i - x j ≤ c) → post 1 (a1, a2, w))
    (H0 : (∀ x, cz_In W x → ¬ x i - x j ≤ c) → post 0 (a1, a2, a3)) : wpX_narrow post (a1, a2, a3) (nI i) (nI j) (cz_I c) := by
  have b1 := cz_C_bd hC hi hj
  have b2 := cz_C_lo hC hj hi
  have b3 := hC.2.2 j i hj hi
  have e1 : a3 ((4 * nI i + nI j).toNatClampNeg) = cz_I (W i j) := by rw [cz_x4, nI_clamp (by omega), hK i j hi hj]
  have e2 : a3 ((4 * nI j + nI i).toNatClampNeg) = cz_I (W j i) := by rw [cz_x4, nI_clamp (by omega), hK j i hj hi]
  refine ⟨pk_in (4 * i + j) 16 (by omega) (cz_x4 i j), cz_blt c (W i j) rfl e1 (by omega) b1 (fun h => ⟨pk_in (4 * j + i) 16 (by omega) (cz_x4 j i), cz_ble 0 (c + W j i) cz_0 (by rw [e2, cz_add]) (by omega) (by omega) (fun h0 => ?_) (fun h0 => H0 (fun x hx hl => ?_))⟩) (fun h => H1 a3 W hK hC (fun x => ⟨fun hx => ⟨hx, ?_⟩, fun hx => hx.1⟩))⟩
  · exact cz_narrow_36 hi hj hc hK hC h0 (fun w hw => H1 w _ hw (cz_N_C hC hi hj h0) (cz_N_In hC hi hj))
  · have g := hx j i hj hi
    omega
  · have g := hx i j hi hj
    omega
theorem cz_fix {post : Int32 → St2 → Prop} {k n : Nat} (hk : k < 4) (hn : n ≤ 12) {a1 a2 a3 : Nat → Int32} {W : Nat → Nat → Int} (hK : cz_K a3 W) (hC : cz_C W)
    (H1 : ∀ w W', cz_K w W' → cz_C W' → (∀ x, cz_In W' x ↔ cz_In W x ∧ x k - x 0 = n) → post 1 (a1, a2, w))
    (H0 : ∀ w, (∀ x, cz_In W x → ¬ x k - x 0 = n) → post 0 (a1, a2, w)) : wpX_fix post (a1, a2, a3) (nI k) (nI n) := by
  unfold wpX_fix
  dsimp only
  rw [cz_nat n, cz_neg]
  refine cz_narrow (j := 0) hk (by omega) (by omega) hK hC (fun w W' hK' hC' hx => br_f (by decide) ?_) (fun h => br_t rfl (H0 a3 (fun x hx e => h x hx (by omega))))
  refine cz_narrow (i := 0) (by omega) hk (by omega) hK' hC' (fun v V hKv hCv hv => br_f (by decide) (H1 v V hKv hCv (fun x => ?_))) (fun h => br_t rfl (H0 w (fun x hx' e => h x ((hx x).mpr ⟨hx', by omega⟩) (by omega))))
  rw [hv x, hx x]
  constructor
  · intro g
    exact ⟨g.1.1, by have := g.1.2; have := g.2; omega⟩
  · intro g
    exact ⟨⟨g.1, by have := g.2; omega⟩, by have := g.2; omega⟩
theorem cz_has_117 {post : Int32 → St2 → Prop} {b1 b2 b3 : Nat → Int32} (h : post 0 (b1, b2, b3)) : wX_has_117 post b1 b2 b3 := br_t rfl h
theorem cz_has_95 {post : Int32 → St2 → Prop} {x4 : Int32} {b1 b2 b3 : Nat → Int32} (h : post 0 (b1, b2, b3)) : wX_has_95 post x4 b1 b2 b3 := br_t rfl (cz_has_117 h)
theorem cz_has_46 {post : Int32 → St2 → Prop} {z a b c : Nat} (hz : z < 3) (ha : a ≤ 12) (hb : b ≤ 12) (hc : c ≤ 12) {a1 a2 a3 : Nat → Int32} {W : Nat → Nat → Int} (hT : cz_T a1 z W) (hC : cz_C W) (h0 : a2 z = 0)
    (H1 : ∀ w, cz_In W (cz_pt a b c) → post 1 (a1, a2, w)) (H0 : ∀ w, ¬ cz_In W (cz_pt a b c) → post 0 (a1, a2, w)) : wX_has_46 post (nI z) (nI a) (nI b) (nI c) 1 a1 a2 a3 := by
  refine ⟨pk_in z 3 hz, br_t (by rw [nI_clamp (by omega)]; exact h0) (br_f (by decide) (cz_take hz hT (fun w hw => ?_)))⟩
  have p1 : cz_pt a b c 1 - cz_pt a b c 0 = a := by show (a : Int) - 0 = a; omega
  have p2 : cz_pt a b c 2 - cz_pt a b c 0 = b := by show (b : Int) - 0 = b; omega
  have p3 : cz_pt a b c 3 - cz_pt a b c 0 = c := by show (c : Int) - 0 = c; omega
  refine cz_fix (k := 1) (by omega) ha hw hC (fun w1 W1 k1 c1 x1 => br_f (by decide) ?_) (fun v hv => br_t rfl (cz_has_95 (H0 v (fun g => hv _ g p1))))
  refine cz_fix (k := 2) (by omega) hb k1 c1 (fun w2 W2 k2 c2 x2 => br_f (by decide) (br_f (by decide) ?_)) (fun v hv => br_t rfl (cz_has_95 (H0 v (fun g => hv _ ((x1 _).mpr ⟨g, p1⟩) p2))))
  refine cz_fix (k := 3) (by omega) hc k2 c2 (fun w3 W3 k3 c3 x3 => br_f (by decide) (br_f (by decide) (H1 w3 ?_))) (fun v hv => br_t rfl (cz_has_117 (H0 v (fun g => hv _ ((x2 _).mpr ⟨(x1 _).mpr ⟨g, p1⟩, p2⟩) p3))))
  have g3 := (x3 _).mp (cz_C_pt c3)
  have g2 := (x2 _).mp g3.1
  have g1 := (x1 _).mp g2.1
  exact cz_pt_in g1.1 g1.2 g2.2 g3.2
theorem cz_has {post : Int32 → St2 → Prop} {z a b c : Nat} (hz : z < 3) (ha : a ≤ 12) (hb : b ≤ 12) (hc : c ≤ 12) {a1 a2 a3 : Nat → Int32} {W : Nat → Nat → Int} (hT : cz_T a1 z W) (hC : cz_C W) (h0 : a2 z = 0)
    (H1 : ∀ w, cz_In W (cz_pt a b c) → post 1 (a1, a2, w)) (H0 : ∀ w, ¬ cz_In W (cz_pt a b c) → post 0 (a1, a2, w)) : wpX_has post (a1, a2, a3) (nI z) (nI a) (nI b) (nI c) := by
  unfold wpX_has
  dsimp only
  exact cz_isZone hz (br_f (by decide)
    (pk_lt a 0 (fun h => absurd h (by omega)) (fun _ => pk_lt 12 a (fun h => absurd h (by omega)) (fun _ =>
      pk_lt b 0 (fun h => absurd h (by omega)) (fun _ => pk_lt 12 b (fun h => absurd h (by omega)) (fun _ =>
        pk_lt c 0 (fun h => absurd h (by omega)) (fun _ => pk_lt 12 c (fun h => absurd h (by omega)) (fun _ => cz_has_46 hz ha hb hc hT hC h0 H1 H0))))))))
end
section
theorem cz_inc (a : Int) : cz_I a + 1 = cz_I (a + 1) := by rw [cz_1, cz_add]
theorem cz_within {post : Int32 → Prop} {y z : Nat} (hy : y < 3) (hz : z < 3) {a1 a2 a3 : Nat → Int32} (h : ∀ k, k < 16 → a1 (16 * y + k) ≤ a1 (16 * z + k)) (h0 : a2 y = 0) (h1 : a2 z = 0) (H : post 1) : wpX_within post (a1, a2, a3) (nI y) (nI z) := by
  unfold wpX_within
  dsimp only
  exact cz_isZone hy (br_f (by decide) (cz_isZone hz (br_f (by decide) ⟨pk_in y 3 hy, br_t (by rw [nI_clamp (by omega)]; exact h0) ⟨pk_in z 3 hz, br_t (by rw [nI_clamp (by omega)]; exact h1)
    (pk_loop (σ := Unit) (fun n i _ => wX_within_51 post (nI y) (nI z) a1 a2 a3 n (nI i)) (fun _ _ => True) 16 0 () (by omega) trivial
      (fun n _ _ => pk_le 16 16 (fun _ => H) (fun h => absurd h (by omega)))
      (fun n i _ hi _ hw => pk_le 16 i (fun h => absurd h (by omega)) (fun _ => ⟨pk_in (16 * y + i) 48 (by omega) (cz_x16 y i), pk_in (16 * z + i) 48 (by omega) (cz_x16 z i),
        br_t (by rw [pk_cl (16 * y + i) (cz_x16 y i), pk_cl (16 * z + i) (cz_x16 z i)]; exact h i hi) (nm_r (nI_1 i) (hw () trivial))⟩)))⟩⟩)))
theorem cz_spanFor {post : Int32 → Prop} {a1 a2 a3 : Nat → Int32} {y : Nat → Int} (hb : ∀ i, 0 ≤ y i ∧ y i ≤ 12) (hy : y 0 = 0) (hK : cz_K a3 (cz_D y)) (H : post 1) : wpX_spanFor post (a1, a2, a3) (cz_I (y 1)) (cz_I (y 2)) := by
  have e12 : a3 12 = cz_I (y 3 - y 0) := hK 3 0 (by omega) (by omega)
  have e13 : a3 13 = cz_I (y 3 - y 1) := hK 3 1 (by omega) (by omega)
  have e14 : a3 14 = cz_I (y 3 - y 2) := hK 3 2 (by omega) (by omega)
  have e3 : a3 3 = cz_I (y 0 - y 3) := hK 0 3 (by omega) (by omega)
  have e7 : a3 7 = cz_I (y 1 - y 3) := hK 1 3 (by omega) (by omega)
  have e11 : a3 11 = cz_I (y 2 - y 3) := hK 2 3 (by omega) (by omega)
  have b3 := hb 3
  have bd : -100000 ≤ y 3 ∧ y 3 ≤ 100000 := by omega
  have hd : wX_spanFor_117 post (cz_I (y 3)) (cz_I (y 3)) a1 a2 a3 := cz_blt (y 3) (y 3) rfl rfl bd bd (fun h => absurd h (by omega)) (fun _ => by
    rw [cz_sub, show y 3 - y 3 = 0 by omega, cz_inc]
    exact H)
  have hc : wX_spanFor_101 post (cz_I (y 3)) (cz_I (y 3)) (cz_I (y 3)) a1 a2 a3 := cz_ble (y 3) (y 3) rfl rfl bd bd (fun _ => hd) (fun h => absurd h (by omega))
  have hB : wX_spanFor_55 post (cz_I (y 1)) (cz_I (y 2)) (cz_I (y 3)) a1 a2 a3 :=
    nm_r (e' := cz_I (y 3)) (by rw [e3, cz_neg, show -(y 0 - y 3) = y 3 by omega])
      (nm_r (e' := cz_I (y 3)) (by rw [e7, cz_sub, show y 1 - (y 1 - y 3) = y 3 by omega])
        (nm_r (e' := cz_I (y 3)) (by rw [e11, cz_sub, show y 2 - (y 2 - y 3) = y 3 by omega])
          (cz_ble (y 3) (y 3) rfl rfl bd bd (fun _ => hc) (fun h => absurd h (by omega)))))
  have hA : wX_spanFor_42 post (cz_I (y 1)) (cz_I (y 2)) (cz_I (y 3)) (cz_I (y 3)) a1 a2 a3 := cz_ble (y 3) (y 3) rfl rfl bd bd (fun _ => hB) (fun h => absurd h (by omega))
  exact nm_r (e' := cz_I (y 3)) (by rw [e12, show y 3 - y 0 = y 3 by omega])
    (nm_r (e' := cz_I (y 3)) (by rw [e13, cz_add, show y 3 - y 1 + y 1 = y 3 by omega])
      (nm_r (e' := cz_I (y 3)) (by rw [e14, cz_add, show y 3 - y 2 + y 2 = y 3 by omega])
        (cz_ble (y 3) (y 3) rfl rfl bd bd (fun _ => hA) (fun h => absurd h (by omega)))))
theorem cz_narrow_id {post : Int32 → St2 → Prop} {i j : Nat} {c : Int} (hi : i < 4) (hj : j < 4) (hc : -12 ≤ c ∧ c ≤ 12) {a1 a2 a3 : Nat → Int32} {W : Nat → Nat → Int} (hK : cz_K a3 W) (h : W i j = c) (H : post 1 (a1, a2, a3)) : wpX_narrow post (a1, a2, a3) (nI i) (nI j) (cz_I c) :=
  ⟨pk_in (4 * i + j) 16 (by omega) (cz_x4 i j), cz_blt c (W i j) rfl (by rw [cz_x4, nI_clamp (by omega), hK i j hi hj]) (by omega) (by omega) (fun g => absurd g (by omega)) (fun _ => H)⟩
theorem cz_fix_id {post : Int32 → St2 → Prop} {a1 a2 a3 : Nat → Int32} {y : Nat → Int} (hb : ∀ i, 0 ≤ y i ∧ y i ≤ 12) (hy : y 0 = 0) (hK : cz_K a3 (cz_D y)) (H : post 1 (a1, a2, a3)) : wpX_fix post (a1, a2, a3) (nI 1) (cz_I (y 1)) := by
  have b1 := hb 1
  unfold wpX_fix
  dsimp only
  rw [cz_neg]
  refine cz_narrow_id (i := 1) (j := 0) (by omega) (by omega) (by omega) hK (by show y 1 - y 0 = y 1; omega) (br_f (by decide) ?_)
  exact cz_narrow_id (i := 0) (j := 1) (by omega) (by omega) (by omega) hK (by show y 0 - y 1 = -y 1; omega) (br_f (by decide) H)
theorem cz_size {post : Int32 → St2 → Prop} {z : Nat} (hz : z < 3) {a1 a2 a3 : Nat → Int32} {y : Nat → Int} (hb : ∀ i, 0 ≤ y i ∧ y i ≤ 12) (hy : y 0 = 0) (hT : cz_T a1 z (cz_D y)) (h0 : a2 z = 0) (H : ∀ w, post 1 (a1, a2, w)) : wpX_size post (a1, a2, a3) (nI z) := by
  have b1 := hb 1
  have b2 := hb 2
  have c4 : ((16 : Int32) * nI z + 4).toNatClampNeg = 16 * z + 4 := pk_cl (16 * z + 4) (cz_x16 z 4)
  have c1 : ((16 : Int32) * nI z + 1).toNatClampNeg = 16 * z + 1 := pk_cl (16 * z + 1) (cz_x16 z 1)
  have e4 : a1 (16 * z + 4) = cz_I (y 1) := by
    have g : a1 (16 * z + 4) = cz_I (y 1 - y 0) := hT 1 0 (by omega) (by omega)
    rw [g, show y 1 - y 0 = y 1 by omega]
  have e1 : a1 (16 * z + 1) = cz_I (-y 1) := by
    have g : a1 (16 * z + 1) = cz_I (y 0 - y 1) := hT 0 1 (by omega) (by omega)
    rw [g, show y 0 - y 1 = -y 1 by omega]
  have o2 : ∀ w, wX_size_48 post (nI z) (cz_I (y 1)) (0 + 1) 1 (cz_I (y 1 + 1)) a1 a2 w := fun w =>
    cz_blt (y 1) (y 1 + 1) rfl rfl (by omega) (by omega) (fun _ => H w) (fun h => absurd h (by omega))
  have o1 : wX_size_48 post (nI z) (cz_I (y 1)) (0 + 1 + 1) 0 (cz_I (y 1)) a1 a2 a3 := by
    refine cz_blt (y 1) (y 1) rfl rfl (by omega) (by omega) (fun h => absurd h (by omega)) (fun _ => cz_take hz hT (fun w hw => cz_fix_id hb hy hw ?_))
    have f8 : w 8 = cz_I (y 2) := by
      have g : w 8 = cz_I (y 2 - y 0) := hw 2 0 (by omega) (by omega)
      rw [g, show y 2 - y 0 = y 2 by omega]
    have f2 : w 2 = cz_I (-y 2) := by
      have g : w 2 = cz_I (y 0 - y 2) := hw 0 2 (by omega) (by omega)
      rw [g, show y 0 - y 2 = -y 2 by omega]
    have i2 : wX_size_85 post (wX_size_48 post (nI z) (cz_I (y 1)) (0 + 1)) (nI z) (cz_I (y 1)) (cz_I (y 1)) (cz_I (y 2)) a1 a2 w (0 + 1) 1 (cz_I (y 2 + 1)) :=
      cz_blt (y 2) (y 2 + 1) rfl rfl (by omega) (by omega) (fun _ => nm_r (cz_inc (y 1)) (o2 w)) (fun h => absurd h (by omega))
    have i1 : wX_size_85 post (wX_size_48 post (nI z) (cz_I (y 1)) (0 + 1)) (nI z) (cz_I (y 1)) (cz_I (y 1)) (cz_I (y 2)) a1 a2 w (0 + 1 + 1) 0 (cz_I (y 2)) :=
      cz_blt (y 2) (y 2) rfl rfl (by omega) (by omega) (fun h => absurd h (by omega)) (fun _ => cz_spanFor hb hy hw (nm_r (e' := 1) (by decide) (nm_r (cz_inc (y 2)) i2)))
    exact nm_r f8 (nm_r (e' := cz_I (y 2)) (by rw [f2, cz_neg, show - -y 2 = y 2 by omega]) ⟨0 + 1 + 1, i1⟩)
  unfold wpX_size
  dsimp only
  exact cz_isZone hz (br_f (by decide) ⟨pk_in z 3 hz, br_t (by rw [nI_clamp (by omega)]; exact h0) ⟨pk_in (16 * z + 4) 48 (by omega) (cz_x16 z 4), nm_r (e' := cz_I (y 1)) (by rw [c4, e4])
    ⟨pk_in (16 * z + 1) 48 (by omega) (cz_x16 z 1), nm_r (e' := cz_I (y 1)) (by rw [c1, e1, cz_neg, show - -y 1 = y 1 by omega]) ⟨0 + 1 + 1, o1⟩⟩⟩⟩)
theorem cz_widest {post : Int32 → Prop} {z i j : Nat} (hz : z < 3) (hi : i < 4) (hj : j < 4) (hij : i ≠ j) {a1 a2 a3 : Nat → Int32} {W : Nat → Nat → Int} (hT : cz_T a1 z W) (h0 : a2 z = 0) (H : post (cz_I (W i j))) : wpX_widest post (a1, a2, a3) (nI z) (nI i) (nI j) := by
  unfold wpX_widest
  dsimp only
  exact cz_isZone hz (br_f (by decide) (cz_isPair hi hj hij (br_f (by decide) ⟨pk_in z 3 hz, br_t (by rw [nI_clamp (by omega)]; exact h0) ⟨pk_in (16 * z + 4 * i + j) 48 (by omega) (cz_x164 z i j), by
    rw [cz_x164, nI_clamp (by omega), hT i j hi hj]
    exact H⟩⟩)))
theorem cz_e1 {p : Nat} (hp : p < 2197) : nI p / 169 = nI (p / 169) := pk_div (d := 169) (by omega) (by omega) (by omega)
theorem cz_e2 {p : Nat} (hp : p < 2197) : nI p / 13 - nI p / 13 / 13 * 13 = nI (p / 13 % 13) := by
  rw [show nI p / 13 = nI (p / 13) from pk_div (d := 13) (by omega) (by omega) (by omega)]
  exact pk_rem (d := 13) (by omega) (by omega) (by omega)
theorem cz_e3 {p : Nat} (hp : p < 2197) : nI p - nI p / 13 * 13 = nI (p % 13) := pk_rem (d := 13) (by omega) (by omega) (by omega)
theorem cz_value {post : Int32 → Prop} {p k : Nat} (hp : p < 2197) (hk : k < 4) (H : post (cz_I (cz_P p k))) : wpL_value post () (nI p) (nI k) := by
  refine pk_eq k 0 (fun e => ?_) (fun n0 => pk_eq k 1 (fun e => ⟨by decide, ?_⟩) (fun n1 => pk_eq k 2 (fun e => ⟨by decide, by decide, ?_⟩) (fun n2 => ⟨by decide, ?_⟩)))
  · subst e
    exact H
  · subst e
    rw [cz_e1 hp, cz_nat]
    exact H
  · subst e
    rw [cz_e2 hp, cz_nat]
    exact H
  · have e : k = 3 := by omega
    subst e
    rw [cz_e3 hp, cz_nat]
    exact H
theorem cz_b21 {post : Int32 → Prop} {w lo hi : Nat} (h : lo ≤ hi) (h12 : hi ≤ 12) (hw : w ≤ 12) (H : ∀ r, r ≤ 12 → post (nI r)) : wL_between_21 post (nI w) (nI lo) (nI hi) := by
  unfold wL_between_21
  have m := Nat.mod_lt w (show 0 < hi - lo + 1 by omega)
  rw [pk_sub h, nI_1, pk_rem (by omega) (by omega) (by omega), nI_add]
  exact ⟨nI_ne0 (by omega) (by omega), H _ (by omega)⟩
theorem cz_between {post : Int32 → Prop} {u v w : Nat} (hu : u ≤ 12) (hv : v ≤ 12) (hw : w ≤ 12) (H : ∀ r, r ≤ 12 → post (nI r)) : wpL_between post () (nI u) (nI v) (nI w) :=
  pk_le v u (fun h => pk_le v u (fun _ => cz_b21 h hu hw H) (fun g => absurd g (by omega))) (fun h => pk_le v u (fun g => absurd g (by omega)) (fun _ => cz_b21 (Nat.le_of_lt h) hv hw H))
end
section
/-- the two zones that the law reads -/
def cz_Z (u v : Nat) (a1 a2 : Nat → Int32) : Prop := cz_T a1 0 (cz_M (cz_D (cz_P u)) (cz_D (cz_P v))) ∧ cz_T a1 1 (cz_D (cz_P v)) ∧ a2 0 = 0 ∧ a2 1 = 0
theorem cz_W_C {u v : Nat} (hu : u < 2197) (hv : v < 2197) : cz_C (cz_M (cz_D (cz_P u)) (cz_D (cz_P v))) := cz_M_C (cz_D_C (cz_P_bd hu)) (cz_D_C (cz_P_bd hv))
theorem cz_340 {post : Int32 → St0 → Prop} {mc ms kc ks u v : Nat} {z : Int32} (hu : u < 2197) (hv : v < 2197) {a1 a2 a3 : Nat → Int32} (hZ : cz_Z u v a1 a2) (H : post 1 ()) : wL_lawOf_340 post mc ms (nI u) z z kc ks a1 a2 a3 := by
  unfold wL_lawOf_340
  rw [cz_e1 hu, cz_e2 hu, cz_e3 hu]
  refine br_t rfl ⟨by decide, by decide, by decide, by decide, cz_has (z := 0) (by omega) (by omega) (by omega) (by omega) hZ.1 (cz_W_C hu hv) hZ.2.2.1 (fun w _ => ?_) (fun w h => absurd cz_M_In h)⟩
  refine cz_within (y := 1) (z := 0) (by omega) (by omega) (fun k hk => ?_) hZ.2.2.2 hZ.2.2.1 ?_
  · rw [cz_T_flat hZ.2.1 hk, cz_T_flat hZ.1 hk, cz_leI (cz_C_bd (cz_D_C (cz_P_bd hv)) (by omega) (by omega)) (cz_C_bd (cz_W_C hu hv) (by omega) (by omega))]
    exact cz_M_le _ _
  · exact cz_size (z := 1) (by omega) (cz_P_bd hv) rfl hZ.2.1 hZ.2.2.2 (fun w' => br_t rfl (br_t rfl (br_t rfl H)))
/-- the law's loops: what holds at i, j -/
def cz_LI (W : Nat → Nat → Int) (X : Nat → Int) (i j : Nat) (s : Int32) : Prop := (s = 1 ∧ ∀ p q, q < 4 → (p < i ∨ (p = i ∧ q < j)) → X p - X q ≤ W p q) ∨ (s = 0 ∧ ∃ p q, p < 4 ∧ q < 4 ∧ ¬ X p - X q ≤ W p q)
theorem cz_LI_0 {W : Nat → Nat → Int} {X : Nat → Int} : cz_LI W X 0 0 1 := Or.inl ⟨rfl, fun p q _ h => absurd h (by omega)⟩
theorem cz_LI_ok {W : Nat → Nat → Int} {X : Nat → Int} {i j : Nat} {s : Int32} (h : cz_LI W X i j s) (e : X i - X j ≤ W i j) : cz_LI W X i (j + 1) s := by
  rcases h with h | h
  · refine Or.inl ⟨h.1, fun p q hq g => ?_⟩
    by_cases f : p = i ∧ q = j
    · rw [f.1, f.2]
      exact e
    · exact h.2 p q hq (by omega)
  · exact Or.inr h
theorem cz_LI_no {W : Nat → Nat → Int} {X : Nat → Int} {i j : Nat} (hi : i < 4) (hj : j < 4) (e : W i j < X i - X j) : cz_LI W X i (j + 1) 0 := Or.inr ⟨rfl, i, j, hi, hj, by omega⟩
theorem cz_LI_row {W : Nat → Nat → Int} {X : Nat → Int} {i : Nat} {s : Int32} (h : cz_LI W X i 4 s) : cz_LI W X (i + 1) 0 s := by
  rcases h with h | h
  · exact Or.inl ⟨h.1, fun p q hq g => h.2 p q hq (by omega)⟩
  · exact Or.inr h
theorem cz_LI_4 {W : Nat → Nat → Int} {X : Nat → Int} {s : Int32} (h : cz_LI W X 4 0 s) : (s = 1 ∧ cz_In W X) ∨ (s = 0 ∧ ¬ cz_In W X) := by
  rcases h with h | ⟨h, p, q, hp, hq, g⟩
  · exact Or.inl ⟨h.1, fun p q hp hq => h.2 p q hq (by omega)⟩
  · exact Or.inr ⟨h, fun f => g (f p q hp hq)⟩
theorem cz_270 {post : Int32 → St0 → Prop} {mc ms kc ks u v i j : Nat} {J162 J171 : Int32 → Int32 → Prop} {x3 x4 x6 x7 x8 x9 s : Int32} (hu : u < 2197) (hv : v < 2197) (hi : i < 4) (hj : j < 4) {a1 a2 a3 : Nat → Int32} (hZ : cz_Z u v a1 a2) (H : J171 s (nI (j + 1))) :
    wL_lawOf_270 post mc ms J162 J171 x3 x4 x6 x7 x8 x9 s (nI i) (nI j) (cz_I (cz_M (cz_D (cz_P u)) (cz_D (cz_P v)) i j)) kc ks a1 a2 a3 :=
  pk_eq i j (fun e => br_t (by rw [← e, (cz_W_C hu hv).1 i hi]; exact cz_0) (nm_r (nI_1 j) H))
    (fun e => cz_widest (z := 0) (by omega) hi hj e hZ.1 hZ.2.2.1 (br_t rfl (nm_r (nI_1 j) H)))
theorem cz_255 {post : Int32 → St0 → Prop} {mc ms kc ks u v i j : Nat} {J162 J171 : Int32 → Int32 → Prop} {x3 x4 x6 x7 x8 x9 s z0 : Int32} {X : Nat → Int} (hu : u < 2197) (hv : v < 2197) (hX : ∀ i, 0 ≤ X i ∧ X i ≤ 12) (hi : i < 4) (hj : j < 4) {a1 a2 a3 : Nat → Int32} (hZ : cz_Z u v a1 a2)
    (hz0 : z0 = cz_I (cz_M (cz_D (cz_P u)) (cz_D (cz_P v)) i j)) (hs : cz_LI (cz_M (cz_D (cz_P u)) (cz_D (cz_P v))) X i j s)
    (H : ∀ s', cz_LI (cz_M (cz_D (cz_P u)) (cz_D (cz_P v))) X i (j + 1) s' → J171 s' (nI (j + 1))) :
    wL_lawOf_255 post mc ms J162 J171 x3 x4 x6 x7 x8 x9 s (nI i) (nI j) (cz_I (X i)) (cz_I (X j)) z0 kc ks a1 a2 a3 := by
  have b1 := hX i
  have b2 := hX j
  subst hz0
  exact cz_ble (X i - X j) _ (cz_sub _ _) rfl (by omega) (cz_C_bd (cz_W_C hu hv) hi hj) (fun h => cz_270 hu hv hi hj hZ (H s (cz_LI_ok hs h))) (fun h => cz_270 hu hv hi hj hZ (H 0 (cz_LI_no hi hj h)))
theorem cz_M_r' {V W : Nat → Nat → Int} {p q : Nat} (h : V p q ≤ W p q) : cz_M V W p q = W p q := by
  unfold cz_M
  split <;> omega
theorem cz_171 {post : Int32 → St0 → Prop} {mc ms kc ks u v x i : Nat} {J162 : Int32 → Int32 → Prop} {x6 x7 x8 s : Int32} (hu : u < 2197) (hv : v < 2197) (hx : x < 2197) (hi : i < 4) {a1 a2 a3 : Nat → Int32} (hZ : cz_Z u v a1 a2)
    (hs : cz_LI (cz_M (cz_D (cz_P u)) (cz_D (cz_P v))) (cz_P x) i 0 s)
    (H : ∀ s', cz_LI (cz_M (cz_D (cz_P u)) (cz_D (cz_P v))) (cz_P x) (i + 1) 0 s' → J162 s' (nI (i + 1))) :
    ∃ f, wL_lawOf_171 post mc ms J162 (nI u) (nI v) x6 x7 x8 (nI x) (nI i) kc ks a1 a2 a3 f s 0 := by
  refine pk_loop (fun f j t => wL_lawOf_171 post mc ms J162 (nI u) (nI v) x6 x7 x8 (nI x) (nI i) kc ks a1 a2 a3 f t (nI j)) (fun j t => cz_LI (cz_M (cz_D (cz_P u)) (cz_D (cz_P v))) (cz_P x) i j t) 4 0 s (by omega) hs
    (fun f t h => pk_le 4 4 (fun _ => nm_r (nI_1 i) (H t (cz_LI_row h))) (fun h => absurd h (by omega)))
    (fun f j t hj h hw => pk_le 4 j (fun h => absurd h (by omega)) (fun _ => cz_value hu hi (cz_value hu hj (cz_value hv hi (cz_value hv hj (cz_value hx hi (cz_value hx hj ?_)))))))
  have b1 := cz_P_bd hu i
  have b2 := cz_P_bd hu j
  have b3 := cz_P_bd hv i
  have b4 := cz_P_bd hv j
  refine cz_ble (cz_P u i - cz_P u j) (cz_P v i - cz_P v j) (cz_sub _ _) (cz_sub _ _) (by omega) (by omega) (fun g => cz_255 hu hv (cz_P_bd hx) hi hj hZ ?_ h hw) (fun g => cz_255 hu hv (cz_P_bd hx) hi hj hZ ?_ h hw)
  · rw [cz_M_r' (V := cz_D (cz_P u)) (W := cz_D (cz_P v)) g]
    exact cz_sub _ _
  · rw [cz_M_l (V := cz_D (cz_P u)) (W := cz_D (cz_P v)) (Int.le_of_lt g)]
    exact cz_sub _ _
theorem cz_162 {post : Int32 → St0 → Prop} {mc ms kc ks u v a b c : Nat} (hu : u < 2197) (hv : v < 2197) (ha : a ≤ 12) (hb : b ≤ 12) (hc : c ≤ 12) {a1 a2 a3 : Nat → Int32} (hZ : cz_Z u v a1 a2) (H : post 1 ()) :
    ∃ f, wL_lawOf_162 post mc ms (nI u) (nI v) (nI a) (nI b) (nI c) (nI (169 * a + 13 * b + c)) kc ks a1 a2 a3 f 1 0 := by
  refine pk_loop (fun f i t => wL_lawOf_162 post mc ms (nI u) (nI v) (nI a) (nI b) (nI c) (nI (169 * a + 13 * b + c)) kc ks a1 a2 a3 f t (nI i)) (fun i t => cz_LI (cz_M (cz_D (cz_P u)) (cz_D (cz_P v))) (cz_P (169 * a + 13 * b + c)) i 0 t) 4 0 1 (by omega) cz_LI_0
    (fun f t h => pk_le 4 4 (fun _ => ?_) (fun h => absurd h (by omega)))
    (fun f i t hi h hw => pk_le 4 i (fun h => absurd h (by omega)) (fun _ => cz_171 hu hv (by omega) hi hZ h hw))
  have g := cz_LI_4 h
  rw [cz_P_of ha hb hc] at g
  refine cz_has (z := 0) (by omega) ha hb hc hZ.1 (cz_W_C hu hv) hZ.2.2.1 (fun w hin => ?_) (fun w hin => ?_)
  · rcases g with g | g
    · exact br_f (by rw [g.1]; decide) (cz_340 hu hv hZ H)
    · exact absurd hin g.2
  · rcases g with g | g
    · exact absurd g.2 hin
    · exact br_t g.1 (cz_340 hu hv hZ H)
theorem cz_lawOf {post : Int32 → St0 → Prop} {p0 p1 p2 : Int32} (H : post 1 ()) : wpL_lawOf post 42 672 () p0 p1 p2 := by
  obtain ⟨m0, h0, e0⟩ := pk_andE p0 (m := 2147483647) 31 (by decide)
  obtain ⟨m1, h1, e1⟩ := pk_andE p1 (m := 2147483647) 31 (by decide)
  obtain ⟨m2, h2, e2⟩ := pk_andE p2 (m := 2147483647) 31 (by decide)
  have hu : m0 % 2197 < 2197 := Nat.mod_lt _ (by omega)
  have hv : m1 % 2197 < 2197 := Nat.mod_lt _ (by omega)
  have hw : m2 % 2197 < 2197 := Nat.mod_lt _ (by omega)
  have r0 : (p0 &&& 2147483647) - (p0 &&& 2147483647) / 2197 * 2197 = nI (m0 % 2197) := by rw [e0]; exact pk_rem (d := 2197) h0 (by omega) (by omega)
  have r1 : (p1 &&& 2147483647) - (p1 &&& 2147483647) / 2197 * 2197 = nI (m1 % 2197) := by rw [e1]; exact pk_rem (d := 2197) h1 (by omega) (by omega)
  have r2 : (p2 &&& 2147483647) - (p2 &&& 2147483647) / 2197 * 2197 = nI (m2 % 2197) := by rw [e2]; exact pk_rem (d := 2197) h2 (by omega) (by omega)
  generalize m0 % 2197 = u at hu r0
  generalize m1 % 2197 = v at hv r1
  generalize m2 % 2197 = w at hw r2
  refine ⟨by decide, nm_r r0 ⟨by decide, nm_r r1 ⟨by decide, nm_r r2 ⟨by decide, by decide, by decide, ?_⟩⟩⟩⟩
  rw [cz_e1 hu, cz_e1 hv, cz_e1 hw, cz_e2 hu, cz_e2 hv, cz_e2 hw, cz_e3 hu, cz_e3 hv, cz_e3 hw]
  refine cz_between (by omega) (by omega) (by omega) (fun a ha => ⟨by decide, by decide, by decide, by decide, by decide, by decide, ?_⟩)
  refine cz_between (by omega) (by omega) (by omega) (fun b hb => ⟨by decide, by decide, by decide, ?_⟩)
  refine cz_between (by omega) (by omega) (by omega) (fun c hc => nm_r (e' := nI (169 * a + 13 * b + c)) ?_ ⟨by omega, by omega, 3, 67, by omega, by omega, ?_⟩)
  · rw [show (169 : Int32) = nI 169 from rfl, show (13 : Int32) = nI 13 from rfl, pk_mul, pk_mul, nI_add, nI_add]
  · refine cz_init (by omega) (by omega) (fun s1 s2 s3 => ?_)
    refine cz_point (z := 0) (by omega) hu (fun t1 T1 o1 => ?_)
    refine cz_point (z := 1) (by omega) hv (fun t2 T2 o2 => ?_)
    have T1' : cz_T t2 0 (cz_D (cz_P u)) := fun p q hp hq => by
      rw [o2 _ (by omega)]
      exact T1 p q hp hq
    refine cz_hull (y := 0) (z := 1) (by omega) (by omega) (by omega) T1' T2 (cz_D_C (cz_P_bd hu)) (cz_D_C (cz_P_bd hv)) (by rw [pk_un (by omega), pk_us]) pk_us (fun t3 T3 o3 => br_t rfl ?_)
    refine cz_162 hu hv ha hb hc ⟨T3, fun p q hp hq => ?_, by rw [pk_un (by omega), pk_us], pk_us⟩ H
    rw [o3 _ (by omega)]
    exact T2 p q hp hq
theorem cz_cellAt {post : Int32 → Prop} {L k : Nat} {xs : Nat → Int32} (hL : L ≤ 3) (hk : k ≤ 3) (H : ∀ r, post r) : wpL_cellAt post L xs () (nI k) :=
  pk_le L k (fun _ => H 0) (fun h => ⟨pk_in k L h, H _⟩)
theorem i_vc (xs : Nat → Int32) (L : Nat) (hL : L ≤ 3) : wpL_law (fun r => r = 1) L xs := by
  unfold wpL_law
  exact cz_cellAt (k := 0) hL (by omega) (fun r1 => cz_cellAt (k := 1) hL (by omega) (fun r2 => cz_cellAt (k := 2) hL (by omega) (fun r3 => ⟨42, 672, by omega, by omega, cz_lawOf rfl⟩)))
end

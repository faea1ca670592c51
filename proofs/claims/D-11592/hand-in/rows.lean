section
/-! Words: codes of ints, a packed memory, choices that the kernel makes by one step each. -/
noncomputable def dx_if {α : Type} (c : Bool) (A B : α) : α := Bool.rec (motive := fun _ => α) B A c
theorem dx_ifp {α : Type} {P : α → Prop} {c : Bool} {A B : α} (hA : c = true → P A) (hB : c = false → P B) : P (dx_if c A B) := by
  cases c
  · exact hB rfl
  · exact hA rfl
theorem dx_ifb {c A B : Bool} (h : dx_if c A B = true) : (c = true ∧ A = true) ∨ (c = false ∧ B = true) := by
  cases c
  · exact Or.inr ⟨rfl, h⟩
  · exact Or.inl ⟨rfl, h⟩
noncomputable def dx_fs (e : Nat) (k : Nat → Bool) : Bool := Nat.rec (motive := fun _ => Bool) (k 0) (fun m _ => k (Nat.succ m)) e
theorem dx_fs_eq (e : Nat) (k : Nat → Bool) : dx_fs e k = k e := by
  cases e
  · rfl
  · rfl
noncomputable def dx_lt (x y : Nat) : Bool := Nat.ble (Nat.succ x) y
theorem dx_lt_t {x y : Nat} (h : dx_lt x y = true) : x < y := Nat.le_of_ble_eq_true h
theorem dx_lt_f {x y : Nat} (h : dx_lt x y = false) : y ≤ x := by
  rcases Nat.lt_or_ge x y with z | z
  · have t : dx_lt x y = true := Nat.ble_eq_true_of_le z
    rw [h] at t
    exact absurd t (by decide)
  · exact z
theorem dx_le_t {x y : Nat} (h : Nat.ble x y = true) : x ≤ y := Nat.le_of_ble_eq_true h
theorem dx_le_f {x y : Nat} (h : Nat.ble x y = false) : y < x := by
  rcases Nat.lt_or_ge y x with z | z
  · exact z
  · have t : Nat.ble x y = true := Nat.ble_eq_true_of_le z
    rw [h] at t
    exact absurd t (by decide)
theorem dx_eq_t {x y : Nat} (h : Nat.beq x y = true) : x = y := Nat.eq_of_beq_eq_true h
theorem dx_eq_f {x y : Nat} (h : Nat.beq x y = false) : x ≠ y := Nat.ne_of_beq_eq_false h
/-- both in the window of a, or both in the window of b -/
noncomputable def dx_wa (c : Nat) : Bool := dx_if (Nat.ble 16384 c) (dx_lt c 16512) false
noncomputable def dx_wb (c : Nat) : Bool := dx_if (Nat.ble 24576 c) (dx_lt c 24704) false
noncomputable def dx_ww (c d : Nat) : Bool := dx_if (dx_wa c) (dx_wa d) (dx_if (dx_wb c) (dx_wb d) false)
theorem dx_wa_t {c : Nat} (h : dx_wa c = true) : 16384 ≤ c ∧ c < 16512 := by
  rcases dx_ifb h with z | z
  · exact ⟨dx_le_t z.1, dx_lt_t z.2⟩
  · exact absurd z.2 (by decide)
theorem dx_wb_t {c : Nat} (h : dx_wb c = true) : 24576 ≤ c ∧ c < 24704 := by
  rcases dx_ifb h with z | z
  · exact ⟨dx_le_t z.1, dx_lt_t z.2⟩
  · exact absurd z.2 (by decide)
theorem dx_ww_t {c d : Nat} (h : dx_ww c d = true) : ((16384 ≤ c ∧ c < 16512) ∧ (16384 ≤ d ∧ d < 16512)) ∨ ((24576 ≤ c ∧ c < 24704) ∧ (24576 ≤ d ∧ d < 24704)) := by
  rcases dx_ifb h with z | z
  · exact Or.inl ⟨dx_wa_t z.1, dx_wa_t z.2⟩
  · rcases dx_ifb z.2 with y | y
    · exact Or.inr ⟨dx_wb_t y.1, dx_wb_t y.2⟩
    · exact absurd y.2 (by decide)
/-- what a code says of an int: plain numbers, -1, the class's four answers, a and numbers near, b and numbers near; nothing else is said -/
def dx_v (a b : Int32) (c : Nat) (x : Int32) : Prop :=
  (c < 8192 → x = nI c) ∧ (c = 8192 → x = -1) ∧ (8193 ≤ c → c < 8200 → x = -1000000001 - nI (c - 8193)) ∧
  (16384 ≤ c → c < 16512 → x = a + (nI (c - 16384) - 64)) ∧ (24576 ≤ c → c < 24704 → x = b + (nI (c - 24576) - 64))
section
variable {a b : Int32}
theorem dv_p {c : Nat} {x : Int32} (h : c < 8192) (e : x = nI c) : dx_v a b c x :=
  ⟨fun _ => e, fun z => absurd z (by omega), fun z _ => absurd z (by omega), fun z _ => absurd z (by omega), fun z _ => absurd z (by omega)⟩
theorem dv_j {x : Int32} : dx_v a b 65535 x :=
  ⟨fun z => absurd z (by decide), fun z => absurd z (by decide), fun _ z => absurd z (by decide), fun _ z => absurd z (by decide), fun _ z => absurd z (by decide)⟩
theorem dv_s {c : Nat} {x : Int32} (h1 : 8193 ≤ c) (h2 : c < 8200) (e : x = -1000000001 - nI (c - 8193)) : dx_v a b c x :=
  ⟨fun z => absurd z (by omega), fun z => absurd z (by omega), fun _ _ => e, fun z _ => absurd z (by omega), fun z _ => absurd z (by omega)⟩
theorem dv_a {c : Nat} {x : Int32} (h1 : 16384 ≤ c) (h2 : c < 16512) (e : x = a + (nI (c - 16384) - 64)) : dx_v a b c x :=
  ⟨fun z => absurd z (by omega), fun z => absurd z (by omega), fun _ z => absurd z (by omega), fun _ _ => e, fun z _ => absurd z (by omega)⟩
theorem dv_b {c : Nat} {x : Int32} (h1 : 24576 ≤ c) (h2 : c < 24704) (e : x = b + (nI (c - 24576) - 64)) : dx_v a b c x :=
  ⟨fun z => absurd z (by omega), fun z => absurd z (by omega), fun _ z => absurd z (by omega), fun _ z => absurd z (by omega), fun _ _ => e⟩
theorem dv_n (k : Nat) (h : k < 8192) : dx_v a b k (nI k) := dv_p h rfl
theorem dv_m1 : dx_v a b 8192 (-1) :=
  ⟨fun z => absurd z (by decide), fun _ => rfl, fun z _ => absurd z (by decide), fun z _ => absurd z (by decide), fun z _ => absurd z (by decide)⟩
theorem dv_m1000000001 : dx_v a b 8193 (-1000000001) := dv_s (by decide) (by decide) (by decide)
theorem dv_m1000000002 : dx_v a b 8194 (-1000000002) := dv_s (by decide) (by decide) (by decide)
theorem dv_m1000000003 : dx_v a b 8195 (-1000000003) := dv_s (by decide) (by decide) (by decide)
theorem dv_m1000000004 : dx_v a b 8196 (-1000000004) := dv_s (by decide) (by decide) (by decide)
theorem dv_of {c : Nat} {x y : Int32} (e : y = x) (h : dx_v a b c x) : dx_v a b c y := by
  rw [e]
  exact h
end
noncomputable def dx_add (x y : Nat) : Nat :=
  dx_if (dx_lt (Nat.add x y) 8192) (Nat.add x y)
    (dx_if (Nat.beq x 0) y
      (dx_if (Nat.beq y 8192) (dx_if (dx_lt x 8192) (Nat.sub x 1) 65535)
        (dx_if (dx_ww x (Nat.add x y)) (Nat.add x y) 65535)))
noncomputable def dx_sub (x y : Nat) : Nat :=
  dx_if (dx_lt x 8192) (dx_if (Nat.ble y x) (Nat.sub x y) 65535)
    (dx_if (dx_ww x (Nat.sub x y)) (Nat.sub x y)
      (dx_if (Nat.ble 8193 x) (dx_if (dx_lt (Nat.add x y) 8200) (Nat.add x y) 65535) 65535))
noncomputable def dx_mul (x y : Nat) : Nat :=
  dx_if (dx_lt x 8192) (dx_if (dx_lt y 8192) (dx_if (dx_lt (Nat.mul x y) 8192) (Nat.mul x y) 65535) 65535) 65535
noncomputable def dx_hf (x : Nat) : Nat := dx_if (dx_lt x 8192) (Nat.div x 2) 65535
noncomputable def dx_an (x m : Nat) : Nat := dx_if (dx_lt x 8192) (Nat.mod x m) 65535
noncomputable def dx_nb (x : Nat) : Nat := dx_if (dx_lt x 2) x 65535
section
variable {a b : Int32}
theorem dv_add {c d : Nat} {x y : Int32} (h1 : dx_v a b c x) (h2 : dx_v a b d y) : dx_v a b (dx_add c d) (x + y) := by
  refine dx_ifp (P := fun z => dx_v a b z (x + y)) (fun e => ?_) (fun e => dx_ifp (P := fun z => dx_v a b z (x + y)) (fun e2 => ?_) (fun e2 => dx_ifp (P := fun z => dx_v a b z (x + y)) (fun e3 => dx_ifp (P := fun z => dx_v a b z (x + y)) (fun e4 => ?_) (fun _ => dv_j)) (fun e3 => dx_ifp (P := fun z => dx_v a b z (x + y)) (fun e4 => ?_) (fun _ => dv_j))))
  · have t : c + d < 8192 := dx_lt_t e
    refine dv_p t ?_
    rw [h1.1 (by omega), h2.1 (by omega), nI_add]
    rfl
  · have t := dx_eq_t e2
    have z : x + y = y := by
      rw [h1.1 (by omega), t, nI_0]
      grind
    rw [z]
    exact h2
  · have t := dx_eq_f e2
    have u := dx_eq_t e3
    have w := dx_lt_t e4
    refine dv_p (show c - 1 < 8192 by omega) ?_
    rw [h1.1 w, h2.2.1 u]
    have g := pk_m1 (c - 1)
    rw [show c - 1 + 1 = c by omega] at g
    exact g
  · have w := dx_ww_t e4
    rcases w with ⟨⟨w1, w2⟩, w3, w4⟩ | ⟨⟨w1, w2⟩, w3, w4⟩
    · have w3' : 16384 ≤ c + d := w3
      have w4' : c + d < 16512 := w4
      refine dv_a w3 w4 ?_
      rw [h1.2.2.2.1 w1 w2, h2.1 (by omega)]
      have g := nI_add (c - 16384) d
      rw [show c - 16384 + d = c + d - 16384 by omega] at g
      show a + (nI (c - 16384) - 64) + nI d = a + (nI (c + d - 16384) - 64)
      rw [← g]
      grind
    · have w3' : 24576 ≤ c + d := w3
      have w4' : c + d < 24704 := w4
      refine dv_b w3 w4 ?_
      rw [h1.2.2.2.2 w1 w2, h2.1 (by omega)]
      have g := nI_add (c - 24576) d
      rw [show c - 24576 + d = c + d - 24576 by omega] at g
      show b + (nI (c - 24576) - 64) + nI d = b + (nI (c + d - 24576) - 64)
      rw [← g]
      grind
theorem dv_sub {c d : Nat} {x y : Int32} (h1 : dx_v a b c x) (h2 : dx_v a b d y) : dx_v a b (dx_sub c d) (x - y) := by
  refine dx_ifp (P := fun z => dx_v a b z (x - y)) (fun e => dx_ifp (P := fun z => dx_v a b z (x - y)) (fun e2 => ?_) (fun _ => dv_j)) (fun e => dx_ifp (P := fun z => dx_v a b z (x - y)) (fun e2 => ?_) (fun e2 => dx_ifp (P := fun z => dx_v a b z (x - y)) (fun e3 => dx_ifp (P := fun z => dx_v a b z (x - y)) (fun e4 => ?_) (fun _ => dv_j)) (fun _ => dv_j)))
  · have t := dx_lt_t e
    have u := dx_le_t e2
    refine dv_p (show c - d < 8192 by omega) ?_
    rw [h1.1 t, h2.1 (by omega), pk_sub u]
    rfl
  · have w := dx_ww_t e2
    rcases w with ⟨⟨w1, w2⟩, w3, w4⟩ | ⟨⟨w1, w2⟩, w3, w4⟩
    · have w3' : 16384 ≤ c - d := w3
      have w4' : c - d < 16512 := w4
      refine dv_a w3 w4 ?_
      rw [h1.2.2.2.1 w1 w2, h2.1 (by omega)]
      have g := nI_add (c - d - 16384) d
      rw [show c - d - 16384 + d = c - 16384 by omega] at g
      show a + (nI (c - 16384) - 64) - nI d = a + (nI (c - d - 16384) - 64)
      rw [← g]
      grind
    · have w3' : 24576 ≤ c - d := w3
      have w4' : c - d < 24704 := w4
      refine dv_b w3 w4 ?_
      rw [h1.2.2.2.2 w1 w2, h2.1 (by omega)]
      have g := nI_add (c - d - 24576) d
      rw [show c - d - 24576 + d = c - 24576 by omega] at g
      show b + (nI (c - 24576) - 64) - nI d = b + (nI (c - d - 24576) - 64)
      rw [← g]
      grind
  · have t := dx_le_t e3
    have u : c + d < 8200 := dx_lt_t e4
    refine dv_s (show 8193 ≤ c + d by omega) u ?_
    rw [h1.2.2.1 t (by omega), h2.1 (by omega)]
    have g := nI_add (c - 8193) d
    rw [show c - 8193 + d = c + d - 8193 by omega] at g
    show -1000000001 - nI (c - 8193) - nI d = -1000000001 - nI (c + d - 8193)
    rw [← g]
    grind
theorem dv_mul {c d : Nat} {x y : Int32} (h1 : dx_v a b c x) (h2 : dx_v a b d y) : dx_v a b (dx_mul c d) (x * y) := by
  refine dx_ifp (P := fun z => dx_v a b z (x * y)) (fun e => dx_ifp (P := fun z => dx_v a b z (x * y)) (fun e2 => dx_ifp (P := fun z => dx_v a b z (x * y)) (fun e3 => ?_) (fun _ => dv_j)) (fun _ => dv_j)) (fun _ => dv_j)
  refine dv_p (dx_lt_t e3) ?_
  rw [h1.1 (dx_lt_t e), h2.1 (dx_lt_t e2), pk_mul]
  rfl
theorem dv_hf {c : Nat} {x : Int32} (h : dx_v a b c x) : dx_v a b (dx_hf c) (x >>> ((1 : Int32) &&& 31)) := by
  refine dx_ifp (P := fun z => dx_v a b z (x >>> ((1 : Int32) &&& 31))) (fun e => ?_) (fun _ => dv_j)
  have t := dx_lt_t e
  refine dv_p (show c / 2 < 8192 by omega) ?_
  rw [h.1 t, pk_shrN (by omega) _ 1 (by decide)]
  rfl
theorem dv_an1 {c : Nat} {x : Int32} (h : dx_v a b c x) : dx_v a b (dx_an c 2) (x &&& 1) := by
  refine dx_ifp (P := fun z => dx_v a b z (x &&& 1)) (fun e => ?_) (fun _ => dv_j)
  have t := dx_lt_t e
  refine dv_p (show c % 2 < 8192 by omega) ?_
  rw [h.1 t, pk_andN (by omega) 1 (by decide)]
  rfl
theorem dv_an3 {c : Nat} {x : Int32} (h : dx_v a b c x) : dx_v a b (dx_an c 4) (x &&& 3) := by
  refine dx_ifp (P := fun z => dx_v a b z (x &&& 3)) (fun e => ?_) (fun _ => dv_j)
  have t := dx_lt_t e
  refine dv_p (show c % 4 < 8192 by omega) ?_
  rw [h.1 t, pk_andN (by omega) 2 (by decide)]
  rfl
theorem dv_an7 {c : Nat} {x : Int32} (h : dx_v a b c x) : dx_v a b (dx_an c 8) (x &&& 7) := by
  refine dx_ifp (P := fun z => dx_v a b z (x &&& 7)) (fun e => ?_) (fun _ => dv_j)
  have t := dx_lt_t e
  refine dv_p (show c % 8 < 8192 by omega) ?_
  rw [h.1 t, pk_andN (by omega) 3 (by decide)]
  rfl
theorem dv_01 {c : Nat} (h : c < 2) : c = 0 ∨ c = 1 := by omega
theorem dv_nb {c : Nat} {x : Int32} (h : dx_v a b c x) : dx_v a b (dx_nb c) (vp_nar .boolean x) := by
  refine dx_ifp (P := fun z => dx_v a b z (vp_nar .boolean x)) (fun e => ?_) (fun _ => dv_j)
  have t := dx_lt_t e
  refine dv_p (show c < 8192 by omega) ?_
  rw [h.1 (by omega)]
  rcases dv_01 t with z | z
  · rw [z]
    decide
  · rw [z]
    decide
end
end
section
/-! Tests: what the executor decides, and that it decides rightly. -/
/-- b is small; a is neither b nor b + 1 -/
def dx_ab (a b : Int32) : Prop := (∃ B : Nat, B < 256 ∧ b = nI B - 100) ∧ ¬ a = b ∧ ¬ a = b + 1
noncomputable def dx_de (c d : Nat) : Bool := dx_if (dx_lt c 8200) (dx_lt d 8200) (dx_ww c d)
noncomputable def dx_dn (c d : Nat) : Bool := dx_if (Nat.beq c 16448) (dx_if (Nat.beq d 24640) true (Nat.beq d 24641)) false
noncomputable def dx_eq (c d : Nat) (A B : Bool) : Bool := dx_if (dx_de c d) (dx_if (Nat.beq c d) A B) (dx_if (dx_dn c d) B false)
noncomputable def dx_dl (c d : Nat) : Bool := dx_if (dx_lt c 8192) (dx_lt d 8192) (dx_if (dx_wb c) (dx_wb d) false)
noncomputable def dx_le (c d : Nat) (A B : Bool) : Bool :=
  dx_if (dx_dl c d) (dx_if (Nat.ble c d) A B)
    (dx_if (Nat.beq c 8192) (dx_if (dx_lt d 8192) A false)
      (dx_if (Nat.beq d 8192) (dx_if (dx_lt c 8192) B false) false))
noncomputable def dx_ls (c d : Nat) (A B : Bool) : Bool := dx_le d c B A
noncomputable def dx_in (c n : Nat) (A : Bool) : Bool := dx_if (dx_lt c n) A false
noncomputable def dx_bo (c : Nat) (A : Bool) : Bool := dx_if (dx_lt c 2) A false
section
variable {a b : Int32}
theorem dv_small {j : Nat} (h : j < 7) : (-1000000001 - nI j).toInt = -1000000001 - (j : Int) := by
  have t : ∀ j, j < 7 → (-1000000001 - nI j).toInt = -1000000001 - (j : Int) := by decide +kernel
  exact t j h
theorem dv_toInt {c : Nat} {x : Int32} (h : dx_v a b c x) (hc : c < 8200) : (c < 8192 ∧ x.toInt = (c : Int)) ∨ (c = 8192 ∧ x.toInt = -1) ∨ (8193 ≤ c ∧ x.toInt = -1000000001 - ((c : Int) - 8193)) := by
  rcases Nat.lt_trichotomy c 8192 with z | z | z
  · refine Or.inl ⟨z, ?_⟩
    rw [h.1 z, nI_toInt (by omega)]
  · refine Or.inr (Or.inl ⟨z, ?_⟩)
    rw [h.2.1 z]
    decide
  · refine Or.inr (Or.inr ⟨by omega, ?_⟩)
    rw [h.2.2.1 (by omega) hc, dv_small (by omega)]
    omega
theorem dv_inj {c d : Nat} {x y : Int32} (h1 : dx_v a b c x) (h2 : dx_v a b d y) (h : dx_de c d = true) : x = y ↔ c = d := by
  rcases dx_ifb h with z | z
  · have z1 := dx_lt_t z.1
    have z2 := dx_lt_t z.2
    have t1 := dv_toInt h1 z1
    have t2 := dv_toInt h2 z2
    rw [← Int32.toInt_inj]
    constructor
    · intro e
      omega
    · intro e
      omega
  · rcases dx_ww_t z.2 with ⟨⟨w1, w2⟩, w3, w4⟩ | ⟨⟨w1, w2⟩, w3, w4⟩
    · have e1 := h1.2.2.2.1 w1 w2
      have e2 := h2.2.2.2.1 w3 w4
      constructor
      · intro e
        have g : nI (c - 16384) = nI (d - 16384) := by grind
        have g' := (nI_eq (by omega) (by omega)).mp g
        omega
      · intro e
        rw [e1, e2, e]
    · have e1 := h1.2.2.2.2 w1 w2
      have e2 := h2.2.2.2.2 w3 w4
      constructor
      · intro e
        have g : nI (c - 24576) = nI (d - 24576) := by grind
        have g' := (nI_eq (by omega) (by omega)).mp g
        omega
      · intro e
        rw [e1, e2, e]
theorem dv_dn (hab : dx_ab a b) {c d : Nat} {x y : Int32} (h1 : dx_v a b c x) (h2 : dx_v a b d y) (h : dx_dn c d = true) : ¬ x = y := by
  rcases dx_ifb h with z | z
  · have z1 := dx_eq_t z.1
    have e1 := h1.2.2.2.1 (by omega) (by omega)
    rw [z1] at e1
    have e1' : x = a := by
      rw [e1]
      show a + (nI 64 - 64) = a
      rw [show nI 64 = 64 from rfl]
      grind
    rcases dx_ifb z.2 with y' | y'
    · have z2 := dx_eq_t y'.1
      have e2 := h2.2.2.2.2 (by omega) (by omega)
      rw [z2] at e2
      have e2' : y = b := by
        rw [e2]
        show b + (nI 64 - 64) = b
        rw [show nI 64 = 64 from rfl]
        grind
      rw [e1', e2']
      exact hab.2.1
    · have z2 := dx_eq_t y'.2
      have e2 := h2.2.2.2.2 (by omega) (by omega)
      rw [z2] at e2
      have e2' : y = b + 1 := by
        rw [e2]
        show b + (nI 65 - 64) = b + 1
        rw [show nI 65 = 65 from rfl]
        grind
      rw [e1', e2']
      exact hab.2.2
  · exact absurd z.2 (by decide)
theorem dp_eq (hab : dx_ab a b) {c d : Nat} {x y : Int32} {A B : Bool} {P Q : Prop} (h1 : dx_v a b c x) (h2 : dx_v a b d y) (h : dx_eq c d A B = true) (hA : A = true → P) (hB : B = true → Q) : (x = y → P) ∧ (¬ x = y → Q) := by
  rcases dx_ifb h with z | z
  · have i := dv_inj h1 h2 z.1
    rcases dx_ifb z.2 with w | w
    · exact ⟨fun _ => hA w.2, fun n => absurd (i.mpr (dx_eq_t w.1)) n⟩
    · exact ⟨fun e => absurd (i.mp e) (dx_eq_f w.1), fun _ => hB w.2⟩
  · rcases dx_ifb z.2 with w | w
    · exact ⟨fun e => absurd e (dv_dn hab h1 h2 w.1), fun _ => hB w.2⟩
    · exact absurd w.2 (by decide)
theorem dv_bInt (hab : dx_ab a b) {c : Nat} {x : Int32} (h : dx_v a b c x) (w1 : 24576 ≤ c) (w2 : c < 24704) : ∃ B : Nat, b = nI B - 100 ∧ x.toInt = (B : Int) + (c : Int) - 24740 := by
  obtain ⟨⟨B, hB, eB⟩, _, _⟩ := hab
  refine ⟨B, eB, ?_⟩
  have e := h.2.2.2.2 w1 w2
  have g := nI_add B (c - 24576)
  have e2 : x = nI (B + (c - 24576)) - nI 164 := by
    rw [e, eB, ← g, show nI 164 = 164 from rfl]
    grind
  rw [e2, pk_sub_toInt (by omega) (by omega)]
  omega
theorem dv_le (hab : dx_ab a b) {c d : Nat} {x y : Int32} (h1 : dx_v a b c x) (h2 : dx_v a b d y) (h : dx_dl c d = true) : x ≤ y ↔ c ≤ d := by
  rcases dx_ifb h with z | z
  · have z1 := dx_lt_t z.1
    have z2 := dx_lt_t z.2
    rw [h1.1 z1, h2.1 z2]
    exact nI_leI (by omega) (by omega)
  · rcases dx_ifb z.2 with w | w
    · have w1 := dx_wb_t w.1
      have w2 := dx_wb_t w.2
      obtain ⟨⟨B, hB, eB⟩, _, _⟩ := hab
      have e1 := h1.2.2.2.2 w1.1 w1.2
      have e2 := h2.2.2.2.2 w2.1 w2.2
      have g1 := nI_add B (c - 24576)
      have g2 := nI_add B (d - 24576)
      have f1 : x = nI (B + (c - 24576)) - nI 164 := by
        rw [e1, eB, ← g1, show nI 164 = 164 from rfl]
        grind
      have f2 : y = nI (B + (d - 24576)) - nI 164 := by
        rw [e2, eB, ← g2, show nI 164 = 164 from rfl]
        grind
      rw [Int32.le_iff_toInt_le, f1, f2, pk_sub_toInt (by omega) (by omega), pk_sub_toInt (by omega) (by omega)]
      omega
    · exact absurd w.2 (by decide)
theorem dv_neg {d : Nat} {y : Int32} (h2 : dx_v a b d y) (hd : d < 8192) : (-1 : Int32) ≤ y ∧ ¬ y ≤ (-1 : Int32) := by
  have t : y.toInt = (d : Int) := by
    rw [h2.1 hd, nI_toInt (by omega)]
  have m : (-1 : Int32).toInt = -1 := by decide
  rw [Int32.le_iff_toInt_le, Int32.le_iff_toInt_le, t, m]
  omega
theorem dp_le (hab : dx_ab a b) {c d : Nat} {x y : Int32} {A B : Bool} {P Q : Prop} (h1 : dx_v a b c x) (h2 : dx_v a b d y) (h : dx_le c d A B = true) (hA : A = true → P) (hB : B = true → Q) : (x ≤ y → P) ∧ (¬ x ≤ y → Q) := by
  rcases dx_ifb h with z | z
  · have i := dv_le hab h1 h2 z.1
    rcases dx_ifb z.2 with w | w
    · exact ⟨fun _ => hA w.2, fun n => absurd (i.mpr (dx_le_t w.1)) n⟩
    · exact ⟨fun e => absurd (i.mp e) (Nat.not_le.mpr (dx_le_f w.1)), fun _ => hB w.2⟩
  · rcases dx_ifb z.2 with w | w
    · have e := h1.2.1 (dx_eq_t w.1)
      rcases dx_ifb w.2 with t | t
      · have n := dv_neg h2 (dx_lt_t t.1)
        rw [e]
        exact ⟨fun _ => hA t.2, fun n' => absurd n.1 n'⟩
      · exact absurd t.2 (by decide)
    · rcases dx_ifb w.2 with s | s
      · have e := h2.2.1 (dx_eq_t s.1)
        rcases dx_ifb s.2 with t | t
        · have n := dv_neg h1 (dx_lt_t t.1)
          rw [e]
          exact ⟨fun n' => absurd n' n.2, fun _ => hB t.2⟩
        · exact absurd t.2 (by decide)
      · exact absurd s.2 (by decide)
theorem dp_ls (hab : dx_ab a b) {c d : Nat} {x y : Int32} {A B : Bool} {P Q : Prop} (h1 : dx_v a b c x) (h2 : dx_v a b d y) (h : dx_ls c d A B = true) (hA : A = true → P) (hB : B = true → Q) : (x < y → P) ∧ (¬ x < y → Q) := by
  have t := dp_le hab h2 h1 h hB hA
  exact ⟨fun e => t.2 (Int32.not_le.mpr e), fun n => t.1 (Int32.not_lt.mp n)⟩
theorem dv_in {c n : Nat} {x : Int32} (hv : dx_v a b c x) (hl : c < n) (hn : n ≤ 8192) : vp_in x n := by
  rw [hv.1 (by omega)]
  exact vp_in_nI hl (by omega)
theorem dp_in {c n : Nat} {x : Int32} {A : Bool} {P : Prop} (hn : n ≤ 8192) (hv : dx_v a b c x) (h : dx_in c n A = true) (H : c < n → A = true → P) : vp_in x n ∧ P := by
  rcases dx_ifb h with z | z
  · exact ⟨dv_in hv (dx_lt_t z.1) hn, H (dx_lt_t z.1) z.2⟩
  · exact absurd z.2 (by decide)
theorem dp_bo {c : Nat} {x : Int32} {A : Bool} {P : Prop} (hv : dx_v a b c x) (h : dx_bo c A = true) (H : A = true → P) : narrow .boolean (.int x) = .int x ∧ P := by
  rcases dx_ifb h with z | z
  · have t := dx_lt_t z.1
    refine ⟨?_, H z.2⟩
    rw [hv.1 (by omega)]
    rcases dv_01 t with w | w
    · rw [w]
      rfl
    · rw [w]
      rfl
  · exact absurd z.2 (by decide)
theorem dp_fs {e : Nat} {x : Int32} {k : Nat → Bool} {P : Prop} (hv : dx_v a b e x) (h : dx_fs e k = true) (H : ∀ c, dx_v a b c x → k c = true → P) : P := by
  rw [dx_fs_eq] at h
  exact H e hv h
end
/-! The memory: cells of 16 bits in one number. -/
noncomputable def dx_ce (M i : Nat) : Nat := Nat.mod (Nat.shiftRight M (Nat.mul 16 i)) 65536
noncomputable def dx_se (M i v : Nat) : Nat := Nat.xor M (Nat.shiftLeft (Nat.xor (dx_ce M i) v) (Nat.mul 16 i))
noncomputable def dx_st (M p c : Nat) (k : Nat → Bool) : Bool := dx_if (dx_lt c 32768) (dx_fs (dx_se M p c) k) false
theorem dx_ce_bit (M i t : Nat) : (dx_ce M i).testBit t = (decide (t < 16) && M.testBit (16 * i + t)) := by
  show ((M >>> (16 * i)) % 2 ^ 16).testBit t = _
  rw [Nat.testBit_mod_two_pow, Nat.testBit_shiftRight]
theorem dx_se_bit (M i v s : Nat) : (dx_se M i v).testBit s = (M.testBit s ^^ (decide (16 * i ≤ s) && ((dx_ce M i).testBit (s - 16 * i) ^^ v.testBit (s - 16 * i)))) := by
  show (M ^^^ ((dx_ce M i ^^^ v) <<< (16 * i))).testBit s = _
  rw [Nat.testBit_xor, Nat.testBit_shiftLeft, Nat.testBit_xor]
theorem dx_cs_eq {M i v : Nat} (hv : v < 65536) : dx_ce (dx_se M i v) i = v := by
  apply Nat.eq_of_testBit_eq
  intro t
  rw [dx_ce_bit, dx_se_bit]
  by_cases ht : t < 16
  · rw [show 16 * i + t - 16 * i = t by omega, dx_ce_bit]
    simp [ht]
  · have : v.testBit t = false := Nat.testBit_lt_two_pow (Nat.lt_of_lt_of_le hv (show 2 ^ 16 ≤ 2 ^ t from Nat.pow_le_pow_right (by omega) (by omega)))
    simp [ht, this]
theorem dx_cs_ne {M i j v : Nat} (hv : v < 65536) (hij : i ≠ j) : dx_ce (dx_se M i v) j = dx_ce M j := by
  apply Nat.eq_of_testBit_eq
  intro t
  rw [dx_ce_bit, dx_ce_bit, dx_se_bit]
  by_cases ht : t < 16
  · by_cases hl : 16 * i ≤ 16 * j + t
    · have q : 16 ≤ 16 * j + t - 16 * i := by omega
      have e1 : (dx_ce M i).testBit (16 * j + t - 16 * i) = false := by
        rw [dx_ce_bit]
        simp
        omega
      have e2 : v.testBit (16 * j + t - 16 * i) = false := Nat.testBit_lt_two_pow (Nat.lt_of_lt_of_le hv (show 2 ^ 16 ≤ 2 ^ (16 * j + t - 16 * i) from Nat.pow_le_pow_right (by omega) q))
      simp [e1, e2]
    · simp [hl]
  · simp [ht]
theorem dx_ce_0 (i : Nat) : dx_ce 0 i = 0 := by
  apply Nat.eq_of_testBit_eq
  intro t
  rw [dx_ce_bit]
  simp
theorem dp_st {M p c : Nat} {k : Nat → Bool} {P : Prop} (h : dx_st M p c k = true) (H : ∀ M', M' = dx_se M p c → c < 65536 → k M' = true → P) : P := by
  rcases dx_ifb h with z | z
  · have t := dx_lt_t z.1
    have w := z.2
    rw [dx_fs_eq] at w
    exact H _ rfl (by omega) w
  · exact absurd z.2 (by decide)
end
section
/-! The state against the memory. -/
def dx_ra (a b : Int32) (M o n : Nat) (f : Nat → Int32) : Prop := ∀ i, i < n → dx_v a b (dx_ce M (o + i)) (f i)
def dx_Q (a b : Int32) (M : Nat) (f : Int32) (a1 a2 a3 a4 a5 a6 a7 a8 a9 a10 a11 a12 a13 a14 a15 a16 a17 a18 a19 a20 a21 a22 : Nat → Int32) : Prop := dx_v a b (dx_ce M 0) f ∧ dx_ra a b M 1 80 a1 ∧ dx_ra a b M 81 80 a2 ∧ dx_ra a b M 161 80 a3 ∧ dx_ra a b M 241 80 a4 ∧ dx_ra a b M 321 80 a5 ∧ dx_ra a b M 401 80 a6 ∧ dx_ra a b M 481 80 a7 ∧ dx_ra a b M 561 8 a8 ∧ dx_ra a b M 569 240 a9 ∧ dx_ra a b M 809 240 a10 ∧ dx_ra a b M 1049 240 a11 ∧ dx_ra a b M 1289 24 a12 ∧ dx_ra a b M 1313 1920 a13 ∧ dx_ra a b M 3233 3 a14 ∧ dx_ra a b M 3236 24 a15 ∧ dx_ra a b M 3260 9 a16 ∧ dx_ra a b M 3269 3 a17 ∧ dx_ra a b M 3272 24 a18 ∧ dx_ra a b M 3296 24 a19 ∧ dx_ra a b M 3320 24 a20 ∧ dx_ra a b M 3344 80 a21 ∧ dx_ra a b M 3424 80 a22
def dx_R (a b : Int32) (M : Nat) (u : St2) : Prop := match u with | (f, a1, a2, a3, a4, a5, a6, a7, a8, a9, a10, a11, a12, a13, a14, a15, a16, a17, a18, a19, a20, a21, a22) => dx_Q a b M f a1 a2 a3 a4 a5 a6 a7 a8 a9 a10 a11 a12 a13 a14 a15 a16 a17 a18 a19 a20 a21 a22
section
variable {a b : Int32}
theorem dr_ne {M p o n c : Nat} {f : Nat → Int32} (h : dx_ra a b M o n f) (hd : p < o ∨ o + n ≤ p) (hc : c < 65536) : dx_ra a b (dx_se M p c) o n f := by
  intro i hi
  rw [dx_cs_ne hc (by omega)]
  exact h i hi
theorem dr_eq {M o n c d : Nat} {f : Nat → Int32} {x w : Int32} (h : dx_ra a b M o n f) (hv : dx_v a b d x) (hl : d < n) (hn : n ≤ 8192) (hw : dx_v a b c w) (hc : c < 65536) : dx_ra a b (dx_se M (o + d) c) o n (upd f x.toNatClampNeg w) := by
  intro i hi
  rw [hv.1 (by omega), nI_clamp (by omega)]
  by_cases e : i = d
  · rw [e, dx_cs_eq hc, pk_us]
    exact hw
  · rw [dx_cs_ne hc (by omega), pk_un e]
    exact h i hi
theorem dr_ge {x o d : Nat} (h : x ≤ o) : x ≤ o + d := Nat.le_trans h (Nat.le_add_right o d)
theorem dr_lo {o d n q : Nat} (hl : d < n) (h : o + n ≤ q) : o + d < q := Nat.lt_of_lt_of_le (Nat.add_lt_add_left hl o) h
theorem dr_g {M o n c : Nat} {f : Nat → Int32} {x : Int32} (h : dx_ra a b M o n f) (hn : n ≤ 8192) (hv : dx_v a b c x) (hl : c < n) : dx_v a b (dx_ce M (Nat.add o c)) (f x.toNatClampNeg) := by
  rw [hv.1 (by omega), nI_clamp (by omega)]
  exact h c hl
theorem dr_g0 {M : Nat} {f : Int32} {a1 a2 a3 a4 a5 a6 a7 a8 a9 a10 a11 a12 a13 a14 a15 a16 a17 a18 a19 a20 a21 a22 : Nat → Int32} (hR : dx_R a b M (f, a1, a2, a3, a4, a5, a6, a7, a8, a9, a10, a11, a12, a13, a14, a15, a16, a17, a18, a19, a20, a21, a22)) : dx_v a b (dx_ce M 0) f := (show dx_Q a b M f a1 a2 a3 a4 a5 a6 a7 a8 a9 a10 a11 a12 a13 a14 a15 a16 a17 a18 a19 a20 a21 a22 from hR).1
theorem dr_g1 {M : Nat} {f : Int32} {a1 a2 a3 a4 a5 a6 a7 a8 a9 a10 a11 a12 a13 a14 a15 a16 a17 a18 a19 a20 a21 a22 : Nat → Int32} (hR : dx_R a b M (f, a1, a2, a3, a4, a5, a6, a7, a8, a9, a10, a11, a12, a13, a14, a15, a16, a17, a18, a19, a20, a21, a22)) {c : Nat} {x : Int32} (hv : dx_v a b c x) (hl : c < 80) : dx_v a b (dx_ce M (Nat.add 1 c)) (a1 x.toNatClampNeg) := dr_g (n := 80) (show dx_Q a b M f a1 a2 a3 a4 a5 a6 a7 a8 a9 a10 a11 a12 a13 a14 a15 a16 a17 a18 a19 a20 a21 a22 from hR).2.1 (by decide) hv hl
theorem dr_g2 {M : Nat} {f : Int32} {a1 a2 a3 a4 a5 a6 a7 a8 a9 a10 a11 a12 a13 a14 a15 a16 a17 a18 a19 a20 a21 a22 : Nat → Int32} (hR : dx_R a b M (f, a1, a2, a3, a4, a5, a6, a7, a8, a9, a10, a11, a12, a13, a14, a15, a16, a17, a18, a19, a20, a21, a22)) {c : Nat} {x : Int32} (hv : dx_v a b c x) (hl : c < 80) : dx_v a b (dx_ce M (Nat.add 81 c)) (a2 x.toNatClampNeg) := dr_g (n := 80) (show dx_Q a b M f a1 a2 a3 a4 a5 a6 a7 a8 a9 a10 a11 a12 a13 a14 a15 a16 a17 a18 a19 a20 a21 a22 from hR).2.2.1 (by decide) hv hl
theorem dr_g3 {M : Nat} {f : Int32} {a1 a2 a3 a4 a5 a6 a7 a8 a9 a10 a11 a12 a13 a14 a15 a16 a17 a18 a19 a20 a21 a22 : Nat → Int32} (hR : dx_R a b M (f, a1, a2, a3, a4, a5, a6, a7, a8, a9, a10, a11, a12, a13, a14, a15, a16, a17, a18, a19, a20, a21, a22)) {c : Nat} {x : Int32} (hv : dx_v a b c x) (hl : c < 80) : dx_v a b (dx_ce M (Nat.add 161 c)) (a3 x.toNatClampNeg) := dr_g (n := 80) (show dx_Q a b M f a1 a2 a3 a4 a5 a6 a7 a8 a9 a10 a11 a12 a13 a14 a15 a16 a17 a18 a19 a20 a21 a22 from hR).2.2.2.1 (by decide) hv hl
theorem dr_g4 {M : Nat} {f : Int32} {a1 a2 a3 a4 a5 a6 a7 a8 a9 a10 a11 a12 a13 a14 a15 a16 a17 a18 a19 a20 a21 a22 : Nat → Int32} (hR : dx_R a b M (f, a1, a2, a3, a4, a5, a6, a7, a8, a9, a10, a11, a12, a13, a14, a15, a16, a17, a18, a19, a20, a21, a22)) {c : Nat} {x : Int32} (hv : dx_v a b c x) (hl : c < 80) : dx_v a b (dx_ce M (Nat.add 241 c)) (a4 x.toNatClampNeg) := dr_g (n := 80) (show dx_Q a b M f a1 a2 a3 a4 a5 a6 a7 a8 a9 a10 a11 a12 a13 a14 a15 a16 a17 a18 a19 a20 a21 a22 from hR).2.2.2.2.1 (by decide) hv hl
theorem dr_g5 {M : Nat} {f : Int32} {a1 a2 a3 a4 a5 a6 a7 a8 a9 a10 a11 a12 a13 a14 a15 a16 a17 a18 a19 a20 a21 a22 : Nat → Int32} (hR : dx_R a b M (f, a1, a2, a3, a4, a5, a6, a7, a8, a9, a10, a11, a12, a13, a14, a15, a16, a17, a18, a19, a20, a21, a22)) {c : Nat} {x : Int32} (hv : dx_v a b c x) (hl : c < 80) : dx_v a b (dx_ce M (Nat.add 321 c)) (a5 x.toNatClampNeg) := dr_g (n := 80) (show dx_Q a b M f a1 a2 a3 a4 a5 a6 a7 a8 a9 a10 a11 a12 a13 a14 a15 a16 a17 a18 a19 a20 a21 a22 from hR).2.2.2.2.2.1 (by decide) hv hl
theorem dr_g6 {M : Nat} {f : Int32} {a1 a2 a3 a4 a5 a6 a7 a8 a9 a10 a11 a12 a13 a14 a15 a16 a17 a18 a19 a20 a21 a22 : Nat → Int32} (hR : dx_R a b M (f, a1, a2, a3, a4, a5, a6, a7, a8, a9, a10, a11, a12, a13, a14, a15, a16, a17, a18, a19, a20, a21, a22)) {c : Nat} {x : Int32} (hv : dx_v a b c x) (hl : c < 80) : dx_v a b (dx_ce M (Nat.add 401 c)) (a6 x.toNatClampNeg) := dr_g (n := 80) (show dx_Q a b M f a1 a2 a3 a4 a5 a6 a7 a8 a9 a10 a11 a12 a13 a14 a15 a16 a17 a18 a19 a20 a21 a22 from hR).2.2.2.2.2.2.1 (by decide) hv hl
theorem dr_g7 {M : Nat} {f : Int32} {a1 a2 a3 a4 a5 a6 a7 a8 a9 a10 a11 a12 a13 a14 a15 a16 a17 a18 a19 a20 a21 a22 : Nat → Int32} (hR : dx_R a b M (f, a1, a2, a3, a4, a5, a6, a7, a8, a9, a10, a11, a12, a13, a14, a15, a16, a17, a18, a19, a20, a21, a22)) {c : Nat} {x : Int32} (hv : dx_v a b c x) (hl : c < 80) : dx_v a b (dx_ce M (Nat.add 481 c)) (a7 x.toNatClampNeg) := dr_g (n := 80) (show dx_Q a b M f a1 a2 a3 a4 a5 a6 a7 a8 a9 a10 a11 a12 a13 a14 a15 a16 a17 a18 a19 a20 a21 a22 from hR).2.2.2.2.2.2.2.1 (by decide) hv hl
theorem dr_g8 {M : Nat} {f : Int32} {a1 a2 a3 a4 a5 a6 a7 a8 a9 a10 a11 a12 a13 a14 a15 a16 a17 a18 a19 a20 a21 a22 : Nat → Int32} (hR : dx_R a b M (f, a1, a2, a3, a4, a5, a6, a7, a8, a9, a10, a11, a12, a13, a14, a15, a16, a17, a18, a19, a20, a21, a22)) {c : Nat} {x : Int32} (hv : dx_v a b c x) (hl : c < 8) : dx_v a b (dx_ce M (Nat.add 561 c)) (a8 x.toNatClampNeg) := dr_g (n := 8) (show dx_Q a b M f a1 a2 a3 a4 a5 a6 a7 a8 a9 a10 a11 a12 a13 a14 a15 a16 a17 a18 a19 a20 a21 a22 from hR).2.2.2.2.2.2.2.2.1 (by decide) hv hl
theorem dr_g9 {M : Nat} {f : Int32} {a1 a2 a3 a4 a5 a6 a7 a8 a9 a10 a11 a12 a13 a14 a15 a16 a17 a18 a19 a20 a21 a22 : Nat → Int32} (hR : dx_R a b M (f, a1, a2, a3, a4, a5, a6, a7, a8, a9, a10, a11, a12, a13, a14, a15, a16, a17, a18, a19, a20, a21, a22)) {c : Nat} {x : Int32} (hv : dx_v a b c x) (hl : c < 240) : dx_v a b (dx_ce M (Nat.add 569 c)) (a9 x.toNatClampNeg) := dr_g (n := 240) (show dx_Q a b M f a1 a2 a3 a4 a5 a6 a7 a8 a9 a10 a11 a12 a13 a14 a15 a16 a17 a18 a19 a20 a21 a22 from hR).2.2.2.2.2.2.2.2.2.1 (by decide) hv hl
theorem dr_g10 {M : Nat} {f : Int32} {a1 a2 a3 a4 a5 a6 a7 a8 a9 a10 a11 a12 a13 a14 a15 a16 a17 a18 a19 a20 a21 a22 : Nat → Int32} (hR : dx_R a b M (f, a1, a2, a3, a4, a5, a6, a7, a8, a9, a10, a11, a12, a13, a14, a15, a16, a17, a18, a19, a20, a21, a22)) {c : Nat} {x : Int32} (hv : dx_v a b c x) (hl : c < 240) : dx_v a b (dx_ce M (Nat.add 809 c)) (a10 x.toNatClampNeg) := dr_g (n := 240) (show dx_Q a b M f a1 a2 a3 a4 a5 a6 a7 a8 a9 a10 a11 a12 a13 a14 a15 a16 a17 a18 a19 a20 a21 a22 from hR).2.2.2.2.2.2.2.2.2.2.1 (by decide) hv hl
theorem dr_g11 {M : Nat} {f : Int32} {a1 a2 a3 a4 a5 a6 a7 a8 a9 a10 a11 a12 a13 a14 a15 a16 a17 a18 a19 a20 a21 a22 : Nat → Int32} (hR : dx_R a b M (f, a1, a2, a3, a4, a5, a6, a7, a8, a9, a10, a11, a12, a13, a14, a15, a16, a17, a18, a19, a20, a21, a22)) {c : Nat} {x : Int32} (hv : dx_v a b c x) (hl : c < 240) : dx_v a b (dx_ce M (Nat.add 1049 c)) (a11 x.toNatClampNeg) := dr_g (n := 240) (show dx_Q a b M f a1 a2 a3 a4 a5 a6 a7 a8 a9 a10 a11 a12 a13 a14 a15 a16 a17 a18 a19 a20 a21 a22 from hR).2.2.2.2.2.2.2.2.2.2.2.1 (by decide) hv hl
theorem dr_g12 {M : Nat} {f : Int32} {a1 a2 a3 a4 a5 a6 a7 a8 a9 a10 a11 a12 a13 a14 a15 a16 a17 a18 a19 a20 a21 a22 : Nat → Int32} (hR : dx_R a b M (f, a1, a2, a3, a4, a5, a6, a7, a8, a9, a10, a11, a12, a13, a14, a15, a16, a17, a18, a19, a20, a21, a22)) {c : Nat} {x : Int32} (hv : dx_v a b c x) (hl : c < 24) : dx_v a b (dx_ce M (Nat.add 1289 c)) (a12 x.toNatClampNeg) := dr_g (n := 24) (show dx_Q a b M f a1 a2 a3 a4 a5 a6 a7 a8 a9 a10 a11 a12 a13 a14 a15 a16 a17 a18 a19 a20 a21 a22 from hR).2.2.2.2.2.2.2.2.2.2.2.2.1 (by decide) hv hl
theorem dr_g13 {M : Nat} {f : Int32} {a1 a2 a3 a4 a5 a6 a7 a8 a9 a10 a11 a12 a13 a14 a15 a16 a17 a18 a19 a20 a21 a22 : Nat → Int32} (hR : dx_R a b M (f, a1, a2, a3, a4, a5, a6, a7, a8, a9, a10, a11, a12, a13, a14, a15, a16, a17, a18, a19, a20, a21, a22)) {c : Nat} {x : Int32} (hv : dx_v a b c x) (hl : c < 1920) : dx_v a b (dx_ce M (Nat.add 1313 c)) (a13 x.toNatClampNeg) := dr_g (n := 1920) (show dx_Q a b M f a1 a2 a3 a4 a5 a6 a7 a8 a9 a10 a11 a12 a13 a14 a15 a16 a17 a18 a19 a20 a21 a22 from hR).2.2.2.2.2.2.2.2.2.2.2.2.2.1 (by decide) hv hl
theorem dr_g14 {M : Nat} {f : Int32} {a1 a2 a3 a4 a5 a6 a7 a8 a9 a10 a11 a12 a13 a14 a15 a16 a17 a18 a19 a20 a21 a22 : Nat → Int32} (hR : dx_R a b M (f, a1, a2, a3, a4, a5, a6, a7, a8, a9, a10, a11, a12, a13, a14, a15, a16, a17, a18, a19, a20, a21, a22)) {c : Nat} {x : Int32} (hv : dx_v a b c x) (hl : c < 3) : dx_v a b (dx_ce M (Nat.add 3233 c)) (a14 x.toNatClampNeg) := dr_g (n := 3) (show dx_Q a b M f a1 a2 a3 a4 a5 a6 a7 a8 a9 a10 a11 a12 a13 a14 a15 a16 a17 a18 a19 a20 a21 a22 from hR).2.2.2.2.2.2.2.2.2.2.2.2.2.2.1 (by decide) hv hl
theorem dr_g15 {M : Nat} {f : Int32} {a1 a2 a3 a4 a5 a6 a7 a8 a9 a10 a11 a12 a13 a14 a15 a16 a17 a18 a19 a20 a21 a22 : Nat → Int32} (hR : dx_R a b M (f, a1, a2, a3, a4, a5, a6, a7, a8, a9, a10, a11, a12, a13, a14, a15, a16, a17, a18, a19, a20, a21, a22)) {c : Nat} {x : Int32} (hv : dx_v a b c x) (hl : c < 24) : dx_v a b (dx_ce M (Nat.add 3236 c)) (a15 x.toNatClampNeg) := dr_g (n := 24) (show dx_Q a b M f a1 a2 a3 a4 a5 a6 a7 a8 a9 a10 a11 a12 a13 a14 a15 a16 a17 a18 a19 a20 a21 a22 from hR).2.2.2.2.2.2.2.2.2.2.2.2.2.2.2.1 (by decide) hv hl
theorem dr_g16 {M : Nat} {f : Int32} {a1 a2 a3 a4 a5 a6 a7 a8 a9 a10 a11 a12 a13 a14 a15 a16 a17 a18 a19 a20 a21 a22 : Nat → Int32} (hR : dx_R a b M (f, a1, a2, a3, a4, a5, a6, a7, a8, a9, a10, a11, a12, a13, a14, a15, a16, a17, a18, a19, a20, a21, a22)) {c : Nat} {x : Int32} (hv : dx_v a b c x) (hl : c < 9) : dx_v a b (dx_ce M (Nat.add 3260 c)) (a16 x.toNatClampNeg) := dr_g (n := 9) (show dx_Q a b M f a1 a2 a3 a4 a5 a6 a7 a8 a9 a10 a11 a12 a13 a14 a15 a16 a17 a18 a19 a20 a21 a22 from hR).2.2.2.2.2.2.2.2.2.2.2.2.2.2.2.2.1 (by decide) hv hl
theorem dr_g17 {M : Nat} {f : Int32} {a1 a2 a3 a4 a5 a6 a7 a8 a9 a10 a11 a12 a13 a14 a15 a16 a17 a18 a19 a20 a21 a22 : Nat → Int32} (hR : dx_R a b M (f, a1, a2, a3, a4, a5, a6, a7, a8, a9, a10, a11, a12, a13, a14, a15, a16, a17, a18, a19, a20, a21, a22)) {c : Nat} {x : Int32} (hv : dx_v a b c x) (hl : c < 3) : dx_v a b (dx_ce M (Nat.add 3269 c)) (a17 x.toNatClampNeg) := dr_g (n := 3) (show dx_Q a b M f a1 a2 a3 a4 a5 a6 a7 a8 a9 a10 a11 a12 a13 a14 a15 a16 a17 a18 a19 a20 a21 a22 from hR).2.2.2.2.2.2.2.2.2.2.2.2.2.2.2.2.2.1 (by decide) hv hl
theorem dr_g18 {M : Nat} {f : Int32} {a1 a2 a3 a4 a5 a6 a7 a8 a9 a10 a11 a12 a13 a14 a15 a16 a17 a18 a19 a20 a21 a22 : Nat → Int32} (hR : dx_R a b M (f, a1, a2, a3, a4, a5, a6, a7, a8, a9, a10, a11, a12, a13, a14, a15, a16, a17, a18, a19, a20, a21, a22)) {c : Nat} {x : Int32} (hv : dx_v a b c x) (hl : c < 24) : dx_v a b (dx_ce M (Nat.add 3272 c)) (a18 x.toNatClampNeg) := dr_g (n := 24) (show dx_Q a b M f a1 a2 a3 a4 a5 a6 a7 a8 a9 a10 a11 a12 a13 a14 a15 a16 a17 a18 a19 a20 a21 a22 from hR).2.2.2.2.2.2.2.2.2.2.2.2.2.2.2.2.2.2.1 (by decide) hv hl
theorem dr_g19 {M : Nat} {f : Int32} {a1 a2 a3 a4 a5 a6 a7 a8 a9 a10 a11 a12 a13 a14 a15 a16 a17 a18 a19 a20 a21 a22 : Nat → Int32} (hR : dx_R a b M (f, a1, a2, a3, a4, a5, a6, a7, a8, a9, a10, a11, a12, a13, a14, a15, a16, a17, a18, a19, a20, a21, a22)) {c : Nat} {x : Int32} (hv : dx_v a b c x) (hl : c < 24) : dx_v a b (dx_ce M (Nat.add 3296 c)) (a19 x.toNatClampNeg) := dr_g (n := 24) (show dx_Q a b M f a1 a2 a3 a4 a5 a6 a7 a8 a9 a10 a11 a12 a13 a14 a15 a16 a17 a18 a19 a20 a21 a22 from hR).2.2.2.2.2.2.2.2.2.2.2.2.2.2.2.2.2.2.2.1 (by decide) hv hl
theorem dr_g20 {M : Nat} {f : Int32} {a1 a2 a3 a4 a5 a6 a7 a8 a9 a10 a11 a12 a13 a14 a15 a16 a17 a18 a19 a20 a21 a22 : Nat → Int32} (hR : dx_R a b M (f, a1, a2, a3, a4, a5, a6, a7, a8, a9, a10, a11, a12, a13, a14, a15, a16, a17, a18, a19, a20, a21, a22)) {c : Nat} {x : Int32} (hv : dx_v a b c x) (hl : c < 24) : dx_v a b (dx_ce M (Nat.add 3320 c)) (a20 x.toNatClampNeg) := dr_g (n := 24) (show dx_Q a b M f a1 a2 a3 a4 a5 a6 a7 a8 a9 a10 a11 a12 a13 a14 a15 a16 a17 a18 a19 a20 a21 a22 from hR).2.2.2.2.2.2.2.2.2.2.2.2.2.2.2.2.2.2.2.2.1 (by decide) hv hl
theorem dr_g21 {M : Nat} {f : Int32} {a1 a2 a3 a4 a5 a6 a7 a8 a9 a10 a11 a12 a13 a14 a15 a16 a17 a18 a19 a20 a21 a22 : Nat → Int32} (hR : dx_R a b M (f, a1, a2, a3, a4, a5, a6, a7, a8, a9, a10, a11, a12, a13, a14, a15, a16, a17, a18, a19, a20, a21, a22)) {c : Nat} {x : Int32} (hv : dx_v a b c x) (hl : c < 80) : dx_v a b (dx_ce M (Nat.add 3344 c)) (a21 x.toNatClampNeg) := dr_g (n := 80) (show dx_Q a b M f a1 a2 a3 a4 a5 a6 a7 a8 a9 a10 a11 a12 a13 a14 a15 a16 a17 a18 a19 a20 a21 a22 from hR).2.2.2.2.2.2.2.2.2.2.2.2.2.2.2.2.2.2.2.2.2.1 (by decide) hv hl
theorem dr_g22 {M : Nat} {f : Int32} {a1 a2 a3 a4 a5 a6 a7 a8 a9 a10 a11 a12 a13 a14 a15 a16 a17 a18 a19 a20 a21 a22 : Nat → Int32} (hR : dx_R a b M (f, a1, a2, a3, a4, a5, a6, a7, a8, a9, a10, a11, a12, a13, a14, a15, a16, a17, a18, a19, a20, a21, a22)) {c : Nat} {x : Int32} (hv : dx_v a b c x) (hl : c < 80) : dx_v a b (dx_ce M (Nat.add 3424 c)) (a22 x.toNatClampNeg) := dr_g (n := 80) (show dx_Q a b M f a1 a2 a3 a4 a5 a6 a7 a8 a9 a10 a11 a12 a13 a14 a15 a16 a17 a18 a19 a20 a21 a22 from hR).2.2.2.2.2.2.2.2.2.2.2.2.2.2.2.2.2.2.2.2.2.2 (by decide) hv hl
theorem dr_u0 {M : Nat} {f : Int32} {a1 a2 a3 a4 a5 a6 a7 a8 a9 a10 a11 a12 a13 a14 a15 a16 a17 a18 a19 a20 a21 a22 : Nat → Int32} (hR : dx_R a b M (f, a1, a2, a3, a4, a5, a6, a7, a8, a9, a10, a11, a12, a13, a14, a15, a16, a17, a18, a19, a20, a21, a22)) {c M' : Nat} {w : Int32} (hw : dx_v a b c w) (hc : c < 65536) (hM : M' = dx_se M 0 c) : dx_R a b M' (w, a1, a2, a3, a4, a5, a6, a7, a8, a9, a10, a11, a12, a13, a14, a15, a16, a17, a18, a19, a20, a21, a22) := by
  have hQ : dx_Q a b M f a1 a2 a3 a4 a5 a6 a7 a8 a9 a10 a11 a12 a13 a14 a15 a16 a17 a18 a19 a20 a21 a22 := hR
  obtain ⟨h0, h1, h2, h3, h4, h5, h6, h7, h8, h9, h10, h11, h12, h13, h14, h15, h16, h17, h18, h19, h20, h21, h22⟩ := hQ
  rw [hM]
  have h0' : dx_v a b (dx_ce (dx_se M 0 c) 0) w := by
    rw [dx_cs_eq hc]
    exact hw
  show dx_Q a b (dx_se M 0 c) w a1 a2 a3 a4 a5 a6 a7 a8 a9 a10 a11 a12 a13 a14 a15 a16 a17 a18 a19 a20 a21 a22
  exact ⟨h0', dr_ne h1 (Or.inl (by decide)) hc, dr_ne h2 (Or.inl (by decide)) hc, dr_ne h3 (Or.inl (by decide)) hc, dr_ne h4 (Or.inl (by decide)) hc, dr_ne h5 (Or.inl (by decide)) hc, dr_ne h6 (Or.inl (by decide)) hc, dr_ne h7 (Or.inl (by decide)) hc, dr_ne h8 (Or.inl (by decide)) hc, dr_ne h9 (Or.inl (by decide)) hc, dr_ne h10 (Or.inl (by decide)) hc, dr_ne h11 (Or.inl (by decide)) hc, dr_ne h12 (Or.inl (by decide)) hc, dr_ne h13 (Or.inl (by decide)) hc, dr_ne h14 (Or.inl (by decide)) hc, dr_ne h15 (Or.inl (by decide)) hc, dr_ne h16 (Or.inl (by decide)) hc, dr_ne h17 (Or.inl (by decide)) hc, dr_ne h18 (Or.inl (by decide)) hc, dr_ne h19 (Or.inl (by decide)) hc, dr_ne h20 (Or.inl (by decide)) hc, dr_ne h21 (Or.inl (by decide)) hc, dr_ne h22 (Or.inl (by decide)) hc⟩
theorem dr_u1 {M : Nat} {f : Int32} {a1 a2 a3 a4 a5 a6 a7 a8 a9 a10 a11 a12 a13 a14 a15 a16 a17 a18 a19 a20 a21 a22 : Nat → Int32} (hR : dx_R a b M (f, a1, a2, a3, a4, a5, a6, a7, a8, a9, a10, a11, a12, a13, a14, a15, a16, a17, a18, a19, a20, a21, a22)) {d c M' : Nat} {x w : Int32} {g : Nat → Int32} (hv : dx_v a b d x) (hl : d < 80) (hw : dx_v a b c w) (hc : c < 65536) (hM : M' = dx_se M (Nat.add 1 d) c) (hg : g = upd a1 x.toNatClampNeg w) : dx_R a b M' (f, g, a2, a3, a4, a5, a6, a7, a8, a9, a10, a11, a12, a13, a14, a15, a16, a17, a18, a19, a20, a21, a22) := by
  replace hM : M' = dx_se M (1 + d) c := hM
  have hQ : dx_Q a b M f a1 a2 a3 a4 a5 a6 a7 a8 a9 a10 a11 a12 a13 a14 a15 a16 a17 a18 a19 a20 a21 a22 := hR
  obtain ⟨h0, h1, h2, h3, h4, h5, h6, h7, h8, h9, h10, h11, h12, h13, h14, h15, h16, h17, h18, h19, h20, h21, h22⟩ := hQ
  rw [hM, hg]
  have h0' : dx_v a b (dx_ce (dx_se M (1 + d) c) 0) f := by
    rw [dx_cs_ne hc (Nat.ne_of_gt (dr_ge (by decide)))]
    exact h0
  show dx_Q a b (dx_se M (1 + d) c) f (upd a1 x.toNatClampNeg w) a2 a3 a4 a5 a6 a7 a8 a9 a10 a11 a12 a13 a14 a15 a16 a17 a18 a19 a20 a21 a22
  exact ⟨h0', dr_eq h1 hv hl (by decide) hw hc, dr_ne h2 (Or.inl (dr_lo hl (by decide))) hc, dr_ne h3 (Or.inl (dr_lo hl (by decide))) hc, dr_ne h4 (Or.inl (dr_lo hl (by decide))) hc, dr_ne h5 (Or.inl (dr_lo hl (by decide))) hc, dr_ne h6 (Or.inl (dr_lo hl (by decide))) hc, dr_ne h7 (Or.inl (dr_lo hl (by decide))) hc, dr_ne h8 (Or.inl (dr_lo hl (by decide))) hc, dr_ne h9 (Or.inl (dr_lo hl (by decide))) hc, dr_ne h10 (Or.inl (dr_lo hl (by decide))) hc, dr_ne h11 (Or.inl (dr_lo hl (by decide))) hc, dr_ne h12 (Or.inl (dr_lo hl (by decide))) hc, dr_ne h13 (Or.inl (dr_lo hl (by decide))) hc, dr_ne h14 (Or.inl (dr_lo hl (by decide))) hc, dr_ne h15 (Or.inl (dr_lo hl (by decide))) hc, dr_ne h16 (Or.inl (dr_lo hl (by decide))) hc, dr_ne h17 (Or.inl (dr_lo hl (by decide))) hc, dr_ne h18 (Or.inl (dr_lo hl (by decide))) hc, dr_ne h19 (Or.inl (dr_lo hl (by decide))) hc, dr_ne h20 (Or.inl (dr_lo hl (by decide))) hc, dr_ne h21 (Or.inl (dr_lo hl (by decide))) hc, dr_ne h22 (Or.inl (dr_lo hl (by decide))) hc⟩
theorem dr_u2 {M : Nat} {f : Int32} {a1 a2 a3 a4 a5 a6 a7 a8 a9 a10 a11 a12 a13 a14 a15 a16 a17 a18 a19 a20 a21 a22 : Nat → Int32} (hR : dx_R a b M (f, a1, a2, a3, a4, a5, a6, a7, a8, a9, a10, a11, a12, a13, a14, a15, a16, a17, a18, a19, a20, a21, a22)) {d c M' : Nat} {x w : Int32} {g : Nat → Int32} (hv : dx_v a b d x) (hl : d < 80) (hw : dx_v a b c w) (hc : c < 65536) (hM : M' = dx_se M (Nat.add 81 d) c) (hg : g = upd a2 x.toNatClampNeg w) : dx_R a b M' (f, a1, g, a3, a4, a5, a6, a7, a8, a9, a10, a11, a12, a13, a14, a15, a16, a17, a18, a19, a20, a21, a22) := by
  replace hM : M' = dx_se M (81 + d) c := hM
  have hQ : dx_Q a b M f a1 a2 a3 a4 a5 a6 a7 a8 a9 a10 a11 a12 a13 a14 a15 a16 a17 a18 a19 a20 a21 a22 := hR
  obtain ⟨h0, h1, h2, h3, h4, h5, h6, h7, h8, h9, h10, h11, h12, h13, h14, h15, h16, h17, h18, h19, h20, h21, h22⟩ := hQ
  rw [hM, hg]
  have h0' : dx_v a b (dx_ce (dx_se M (81 + d) c) 0) f := by
    rw [dx_cs_ne hc (Nat.ne_of_gt (dr_ge (by decide)))]
    exact h0
  show dx_Q a b (dx_se M (81 + d) c) f a1 (upd a2 x.toNatClampNeg w) a3 a4 a5 a6 a7 a8 a9 a10 a11 a12 a13 a14 a15 a16 a17 a18 a19 a20 a21 a22
  exact ⟨h0', dr_ne h1 (Or.inr (dr_ge (by decide))) hc, dr_eq h2 hv hl (by decide) hw hc, dr_ne h3 (Or.inl (dr_lo hl (by decide))) hc, dr_ne h4 (Or.inl (dr_lo hl (by decide))) hc, dr_ne h5 (Or.inl (dr_lo hl (by decide))) hc, dr_ne h6 (Or.inl (dr_lo hl (by decide))) hc, dr_ne h7 (Or.inl (dr_lo hl (by decide))) hc, dr_ne h8 (Or.inl (dr_lo hl (by decide))) hc, dr_ne h9 (Or.inl (dr_lo hl (by decide))) hc, dr_ne h10 (Or.inl (dr_lo hl (by decide))) hc, dr_ne h11 (Or.inl (dr_lo hl (by decide))) hc, dr_ne h12 (Or.inl (dr_lo hl (by decide))) hc, dr_ne h13 (Or.inl (dr_lo hl (by decide))) hc, dr_ne h14 (Or.inl (dr_lo hl (by decide))) hc, dr_ne h15 (Or.inl (dr_lo hl (by decide))) hc, dr_ne h16 (Or.inl (dr_lo hl (by decide))) hc, dr_ne h17 (Or.inl (dr_lo hl (by decide))) hc, dr_ne h18 (Or.inl (dr_lo hl (by decide))) hc, dr_ne h19 (Or.inl (dr_lo hl (by decide))) hc, dr_ne h20 (Or.inl (dr_lo hl (by decide))) hc, dr_ne h21 (Or.inl (dr_lo hl (by decide))) hc, dr_ne h22 (Or.inl (dr_lo hl (by decide))) hc⟩
theorem dr_u3 {M : Nat} {f : Int32} {a1 a2 a3 a4 a5 a6 a7 a8 a9 a10 a11 a12 a13 a14 a15 a16 a17 a18 a19 a20 a21 a22 : Nat → Int32} (hR : dx_R a b M (f, a1, a2, a3, a4, a5, a6, a7, a8, a9, a10, a11, a12, a13, a14, a15, a16, a17, a18, a19, a20, a21, a22)) {d c M' : Nat} {x w : Int32} {g : Nat → Int32} (hv : dx_v a b d x) (hl : d < 80) (hw : dx_v a b c w) (hc : c < 65536) (hM : M' = dx_se M (Nat.add 161 d) c) (hg : g = upd a3 x.toNatClampNeg w) : dx_R a b M' (f, a1, a2, g, a4, a5, a6, a7, a8, a9, a10, a11, a12, a13, a14, a15, a16, a17, a18, a19, a20, a21, a22) := by
  replace hM : M' = dx_se M (161 + d) c := hM
  have hQ : dx_Q a b M f a1 a2 a3 a4 a5 a6 a7 a8 a9 a10 a11 a12 a13 a14 a15 a16 a17 a18 a19 a20 a21 a22 := hR
  obtain ⟨h0, h1, h2, h3, h4, h5, h6, h7, h8, h9, h10, h11, h12, h13, h14, h15, h16, h17, h18, h19, h20, h21, h22⟩ := hQ
  rw [hM, hg]
  have h0' : dx_v a b (dx_ce (dx_se M (161 + d) c) 0) f := by
    rw [dx_cs_ne hc (Nat.ne_of_gt (dr_ge (by decide)))]
    exact h0
  show dx_Q a b (dx_se M (161 + d) c) f a1 a2 (upd a3 x.toNatClampNeg w) a4 a5 a6 a7 a8 a9 a10 a11 a12 a13 a14 a15 a16 a17 a18 a19 a20 a21 a22
  exact ⟨h0', dr_ne h1 (Or.inr (dr_ge (by decide))) hc, dr_ne h2 (Or.inr (dr_ge (by decide))) hc, dr_eq h3 hv hl (by decide) hw hc, dr_ne h4 (Or.inl (dr_lo hl (by decide))) hc, dr_ne h5 (Or.inl (dr_lo hl (by decide))) hc, dr_ne h6 (Or.inl (dr_lo hl (by decide))) hc, dr_ne h7 (Or.inl (dr_lo hl (by decide))) hc, dr_ne h8 (Or.inl (dr_lo hl (by decide))) hc, dr_ne h9 (Or.inl (dr_lo hl (by decide))) hc, dr_ne h10 (Or.inl (dr_lo hl (by decide))) hc, dr_ne h11 (Or.inl (dr_lo hl (by decide))) hc, dr_ne h12 (Or.inl (dr_lo hl (by decide))) hc, dr_ne h13 (Or.inl (dr_lo hl (by decide))) hc, dr_ne h14 (Or.inl (dr_lo hl (by decide))) hc, dr_ne h15 (Or.inl (dr_lo hl (by decide))) hc, dr_ne h16 (Or.inl (dr_lo hl (by decide))) hc, dr_ne h17 (Or.inl (dr_lo hl (by decide))) hc, dr_ne h18 (Or.inl (dr_lo hl (by decide))) hc, dr_ne h19 (Or.inl (dr_lo hl (by decide))) hc, dr_ne h20 (Or.inl (dr_lo hl (by decide))) hc, dr_ne h21 (Or.inl (dr_lo hl (by decide))) hc, dr_ne h22 (Or.inl (dr_lo hl (by decide))) hc⟩
theorem dr_u4 {M : Nat} {f : Int32} {a1 a2 a3 a4 a5 a6 a7 a8 a9 a10 a11 a12 a13 a14 a15 a16 a17 a18 a19 a20 a21 a22 : Nat → Int32} (hR : dx_R a b M (f, a1, a2, a3, a4, a5, a6, a7, a8, a9, a10, a11, a12, a13, a14, a15, a16, a17, a18, a19, a20, a21, a22)) {d c M' : Nat} {x w : Int32} {g : Nat → Int32} (hv : dx_v a b d x) (hl : d < 80) (hw : dx_v a b c w) (hc : c < 65536) (hM : M' = dx_se M (Nat.add 241 d) c) (hg : g = upd a4 x.toNatClampNeg w) : dx_R a b M' (f, a1, a2, a3, g, a5, a6, a7, a8, a9, a10, a11, a12, a13, a14, a15, a16, a17, a18, a19, a20, a21, a22) := by
  replace hM : M' = dx_se M (241 + d) c := hM
  have hQ : dx_Q a b M f a1 a2 a3 a4 a5 a6 a7 a8 a9 a10 a11 a12 a13 a14 a15 a16 a17 a18 a19 a20 a21 a22 := hR
  obtain ⟨h0, h1, h2, h3, h4, h5, h6, h7, h8, h9, h10, h11, h12, h13, h14, h15, h16, h17, h18, h19, h20, h21, h22⟩ := hQ
  rw [hM, hg]
  have h0' : dx_v a b (dx_ce (dx_se M (241 + d) c) 0) f := by
    rw [dx_cs_ne hc (Nat.ne_of_gt (dr_ge (by decide)))]
    exact h0
  show dx_Q a b (dx_se M (241 + d) c) f a1 a2 a3 (upd a4 x.toNatClampNeg w) a5 a6 a7 a8 a9 a10 a11 a12 a13 a14 a15 a16 a17 a18 a19 a20 a21 a22
  exact ⟨h0', dr_ne h1 (Or.inr (dr_ge (by decide))) hc, dr_ne h2 (Or.inr (dr_ge (by decide))) hc, dr_ne h3 (Or.inr (dr_ge (by decide))) hc, dr_eq h4 hv hl (by decide) hw hc, dr_ne h5 (Or.inl (dr_lo hl (by decide))) hc, dr_ne h6 (Or.inl (dr_lo hl (by decide))) hc, dr_ne h7 (Or.inl (dr_lo hl (by decide))) hc, dr_ne h8 (Or.inl (dr_lo hl (by decide))) hc, dr_ne h9 (Or.inl (dr_lo hl (by decide))) hc, dr_ne h10 (Or.inl (dr_lo hl (by decide))) hc, dr_ne h11 (Or.inl (dr_lo hl (by decide))) hc, dr_ne h12 (Or.inl (dr_lo hl (by decide))) hc, dr_ne h13 (Or.inl (dr_lo hl (by decide))) hc, dr_ne h14 (Or.inl (dr_lo hl (by decide))) hc, dr_ne h15 (Or.inl (dr_lo hl (by decide))) hc, dr_ne h16 (Or.inl (dr_lo hl (by decide))) hc, dr_ne h17 (Or.inl (dr_lo hl (by decide))) hc, dr_ne h18 (Or.inl (dr_lo hl (by decide))) hc, dr_ne h19 (Or.inl (dr_lo hl (by decide))) hc, dr_ne h20 (Or.inl (dr_lo hl (by decide))) hc, dr_ne h21 (Or.inl (dr_lo hl (by decide))) hc, dr_ne h22 (Or.inl (dr_lo hl (by decide))) hc⟩
theorem dr_u5 {M : Nat} {f : Int32} {a1 a2 a3 a4 a5 a6 a7 a8 a9 a10 a11 a12 a13 a14 a15 a16 a17 a18 a19 a20 a21 a22 : Nat → Int32} (hR : dx_R a b M (f, a1, a2, a3, a4, a5, a6, a7, a8, a9, a10, a11, a12, a13, a14, a15, a16, a17, a18, a19, a20, a21, a22)) {d c M' : Nat} {x w : Int32} {g : Nat → Int32} (hv : dx_v a b d x) (hl : d < 80) (hw : dx_v a b c w) (hc : c < 65536) (hM : M' = dx_se M (Nat.add 321 d) c) (hg : g = upd a5 x.toNatClampNeg w) : dx_R a b M' (f, a1, a2, a3, a4, g, a6, a7, a8, a9, a10, a11, a12, a13, a14, a15, a16, a17, a18, a19, a20, a21, a22) := by
  replace hM : M' = dx_se M (321 + d) c := hM
  have hQ : dx_Q a b M f a1 a2 a3 a4 a5 a6 a7 a8 a9 a10 a11 a12 a13 a14 a15 a16 a17 a18 a19 a20 a21 a22 := hR
  obtain ⟨h0, h1, h2, h3, h4, h5, h6, h7, h8, h9, h10, h11, h12, h13, h14, h15, h16, h17, h18, h19, h20, h21, h22⟩ := hQ
  rw [hM, hg]
  have h0' : dx_v a b (dx_ce (dx_se M (321 + d) c) 0) f := by
    rw [dx_cs_ne hc (Nat.ne_of_gt (dr_ge (by decide)))]
    exact h0
  show dx_Q a b (dx_se M (321 + d) c) f a1 a2 a3 a4 (upd a5 x.toNatClampNeg w) a6 a7 a8 a9 a10 a11 a12 a13 a14 a15 a16 a17 a18 a19 a20 a21 a22
  exact ⟨h0', dr_ne h1 (Or.inr (dr_ge (by decide))) hc, dr_ne h2 (Or.inr (dr_ge (by decide))) hc, dr_ne h3 (Or.inr (dr_ge (by decide))) hc, dr_ne h4 (Or.inr (dr_ge (by decide))) hc, dr_eq h5 hv hl (by decide) hw hc, dr_ne h6 (Or.inl (dr_lo hl (by decide))) hc, dr_ne h7 (Or.inl (dr_lo hl (by decide))) hc, dr_ne h8 (Or.inl (dr_lo hl (by decide))) hc, dr_ne h9 (Or.inl (dr_lo hl (by decide))) hc, dr_ne h10 (Or.inl (dr_lo hl (by decide))) hc, dr_ne h11 (Or.inl (dr_lo hl (by decide))) hc, dr_ne h12 (Or.inl (dr_lo hl (by decide))) hc, dr_ne h13 (Or.inl (dr_lo hl (by decide))) hc, dr_ne h14 (Or.inl (dr_lo hl (by decide))) hc, dr_ne h15 (Or.inl (dr_lo hl (by decide))) hc, dr_ne h16 (Or.inl (dr_lo hl (by decide))) hc, dr_ne h17 (Or.inl (dr_lo hl (by decide))) hc, dr_ne h18 (Or.inl (dr_lo hl (by decide))) hc, dr_ne h19 (Or.inl (dr_lo hl (by decide))) hc, dr_ne h20 (Or.inl (dr_lo hl (by decide))) hc, dr_ne h21 (Or.inl (dr_lo hl (by decide))) hc, dr_ne h22 (Or.inl (dr_lo hl (by decide))) hc⟩
theorem dr_u6 {M : Nat} {f : Int32} {a1 a2 a3 a4 a5 a6 a7 a8 a9 a10 a11 a12 a13 a14 a15 a16 a17 a18 a19 a20 a21 a22 : Nat → Int32} (hR : dx_R a b M (f, a1, a2, a3, a4, a5, a6, a7, a8, a9, a10, a11, a12, a13, a14, a15, a16, a17, a18, a19, a20, a21, a22)) {d c M' : Nat} {x w : Int32} {g : Nat → Int32} (hv : dx_v a b d x) (hl : d < 80) (hw : dx_v a b c w) (hc : c < 65536) (hM : M' = dx_se M (Nat.add 401 d) c) (hg : g = upd a6 x.toNatClampNeg w) : dx_R a b M' (f, a1, a2, a3, a4, a5, g, a7, a8, a9, a10, a11, a12, a13, a14, a15, a16, a17, a18, a19, a20, a21, a22) := by
  replace hM : M' = dx_se M (401 + d) c := hM
  have hQ : dx_Q a b M f a1 a2 a3 a4 a5 a6 a7 a8 a9 a10 a11 a12 a13 a14 a15 a16 a17 a18 a19 a20 a21 a22 := hR
  obtain ⟨h0, h1, h2, h3, h4, h5, h6, h7, h8, h9, h10, h11, h12, h13, h14, h15, h16, h17, h18, h19, h20, h21, h22⟩ := hQ
  rw [hM, hg]
  have h0' : dx_v a b (dx_ce (dx_se M (401 + d) c) 0) f := by
    rw [dx_cs_ne hc (Nat.ne_of_gt (dr_ge (by decide)))]
    exact h0
  show dx_Q a b (dx_se M (401 + d) c) f a1 a2 a3 a4 a5 (upd a6 x.toNatClampNeg w) a7 a8 a9 a10 a11 a12 a13 a14 a15 a16 a17 a18 a19 a20 a21 a22
  exact ⟨h0', dr_ne h1 (Or.inr (dr_ge (by decide))) hc, dr_ne h2 (Or.inr (dr_ge (by decide))) hc, dr_ne h3 (Or.inr (dr_ge (by decide))) hc, dr_ne h4 (Or.inr (dr_ge (by decide))) hc, dr_ne h5 (Or.inr (dr_ge (by decide))) hc, dr_eq h6 hv hl (by decide) hw hc, dr_ne h7 (Or.inl (dr_lo hl (by decide))) hc, dr_ne h8 (Or.inl (dr_lo hl (by decide))) hc, dr_ne h9 (Or.inl (dr_lo hl (by decide))) hc, dr_ne h10 (Or.inl (dr_lo hl (by decide))) hc, dr_ne h11 (Or.inl (dr_lo hl (by decide))) hc, dr_ne h12 (Or.inl (dr_lo hl (by decide))) hc, dr_ne h13 (Or.inl (dr_lo hl (by decide))) hc, dr_ne h14 (Or.inl (dr_lo hl (by decide))) hc, dr_ne h15 (Or.inl (dr_lo hl (by decide))) hc, dr_ne h16 (Or.inl (dr_lo hl (by decide))) hc, dr_ne h17 (Or.inl (dr_lo hl (by decide))) hc, dr_ne h18 (Or.inl (dr_lo hl (by decide))) hc, dr_ne h19 (Or.inl (dr_lo hl (by decide))) hc, dr_ne h20 (Or.inl (dr_lo hl (by decide))) hc, dr_ne h21 (Or.inl (dr_lo hl (by decide))) hc, dr_ne h22 (Or.inl (dr_lo hl (by decide))) hc⟩
theorem dr_u7 {M : Nat} {f : Int32} {a1 a2 a3 a4 a5 a6 a7 a8 a9 a10 a11 a12 a13 a14 a15 a16 a17 a18 a19 a20 a21 a22 : Nat → Int32} (hR : dx_R a b M (f, a1, a2, a3, a4, a5, a6, a7, a8, a9, a10, a11, a12, a13, a14, a15, a16, a17, a18, a19, a20, a21, a22)) {d c M' : Nat} {x w : Int32} {g : Nat → Int32} (hv : dx_v a b d x) (hl : d < 80) (hw : dx_v a b c w) (hc : c < 65536) (hM : M' = dx_se M (Nat.add 481 d) c) (hg : g = upd a7 x.toNatClampNeg w) : dx_R a b M' (f, a1, a2, a3, a4, a5, a6, g, a8, a9, a10, a11, a12, a13, a14, a15, a16, a17, a18, a19, a20, a21, a22) := by
  replace hM : M' = dx_se M (481 + d) c := hM
  have hQ : dx_Q a b M f a1 a2 a3 a4 a5 a6 a7 a8 a9 a10 a11 a12 a13 a14 a15 a16 a17 a18 a19 a20 a21 a22 := hR
  obtain ⟨h0, h1, h2, h3, h4, h5, h6, h7, h8, h9, h10, h11, h12, h13, h14, h15, h16, h17, h18, h19, h20, h21, h22⟩ := hQ
  rw [hM, hg]
  have h0' : dx_v a b (dx_ce (dx_se M (481 + d) c) 0) f := by
    rw [dx_cs_ne hc (Nat.ne_of_gt (dr_ge (by decide)))]
    exact h0
  show dx_Q a b (dx_se M (481 + d) c) f a1 a2 a3 a4 a5 a6 (upd a7 x.toNatClampNeg w) a8 a9 a10 a11 a12 a13 a14 a15 a16 a17 a18 a19 a20 a21 a22
  exact ⟨h0', dr_ne h1 (Or.inr (dr_ge (by decide))) hc, dr_ne h2 (Or.inr (dr_ge (by decide))) hc, dr_ne h3 (Or.inr (dr_ge (by decide))) hc, dr_ne h4 (Or.inr (dr_ge (by decide))) hc, dr_ne h5 (Or.inr (dr_ge (by decide))) hc, dr_ne h6 (Or.inr (dr_ge (by decide))) hc, dr_eq h7 hv hl (by decide) hw hc, dr_ne h8 (Or.inl (dr_lo hl (by decide))) hc, dr_ne h9 (Or.inl (dr_lo hl (by decide))) hc, dr_ne h10 (Or.inl (dr_lo hl (by decide))) hc, dr_ne h11 (Or.inl (dr_lo hl (by decide))) hc, dr_ne h12 (Or.inl (dr_lo hl (by decide))) hc, dr_ne h13 (Or.inl (dr_lo hl (by decide))) hc, dr_ne h14 (Or.inl (dr_lo hl (by decide))) hc, dr_ne h15 (Or.inl (dr_lo hl (by decide))) hc, dr_ne h16 (Or.inl (dr_lo hl (by decide))) hc, dr_ne h17 (Or.inl (dr_lo hl (by decide))) hc, dr_ne h18 (Or.inl (dr_lo hl (by decide))) hc, dr_ne h19 (Or.inl (dr_lo hl (by decide))) hc, dr_ne h20 (Or.inl (dr_lo hl (by decide))) hc, dr_ne h21 (Or.inl (dr_lo hl (by decide))) hc, dr_ne h22 (Or.inl (dr_lo hl (by decide))) hc⟩
theorem dr_u8 {M : Nat} {f : Int32} {a1 a2 a3 a4 a5 a6 a7 a8 a9 a10 a11 a12 a13 a14 a15 a16 a17 a18 a19 a20 a21 a22 : Nat → Int32} (hR : dx_R a b M (f, a1, a2, a3, a4, a5, a6, a7, a8, a9, a10, a11, a12, a13, a14, a15, a16, a17, a18, a19, a20, a21, a22)) {d c M' : Nat} {x w : Int32} {g : Nat → Int32} (hv : dx_v a b d x) (hl : d < 8) (hw : dx_v a b c w) (hc : c < 65536) (hM : M' = dx_se M (Nat.add 561 d) c) (hg : g = upd a8 x.toNatClampNeg w) : dx_R a b M' (f, a1, a2, a3, a4, a5, a6, a7, g, a9, a10, a11, a12, a13, a14, a15, a16, a17, a18, a19, a20, a21, a22) := by
  replace hM : M' = dx_se M (561 + d) c := hM
  have hQ : dx_Q a b M f a1 a2 a3 a4 a5 a6 a7 a8 a9 a10 a11 a12 a13 a14 a15 a16 a17 a18 a19 a20 a21 a22 := hR
  obtain ⟨h0, h1, h2, h3, h4, h5, h6, h7, h8, h9, h10, h11, h12, h13, h14, h15, h16, h17, h18, h19, h20, h21, h22⟩ := hQ
  rw [hM, hg]
  have h0' : dx_v a b (dx_ce (dx_se M (561 + d) c) 0) f := by
    rw [dx_cs_ne hc (Nat.ne_of_gt (dr_ge (by decide)))]
    exact h0
  show dx_Q a b (dx_se M (561 + d) c) f a1 a2 a3 a4 a5 a6 a7 (upd a8 x.toNatClampNeg w) a9 a10 a11 a12 a13 a14 a15 a16 a17 a18 a19 a20 a21 a22
  exact ⟨h0', dr_ne h1 (Or.inr (dr_ge (by decide))) hc, dr_ne h2 (Or.inr (dr_ge (by decide))) hc, dr_ne h3 (Or.inr (dr_ge (by decide))) hc, dr_ne h4 (Or.inr (dr_ge (by decide))) hc, dr_ne h5 (Or.inr (dr_ge (by decide))) hc, dr_ne h6 (Or.inr (dr_ge (by decide))) hc, dr_ne h7 (Or.inr (dr_ge (by decide))) hc, dr_eq h8 hv hl (by decide) hw hc, dr_ne h9 (Or.inl (dr_lo hl (by decide))) hc, dr_ne h10 (Or.inl (dr_lo hl (by decide))) hc, dr_ne h11 (Or.inl (dr_lo hl (by decide))) hc, dr_ne h12 (Or.inl (dr_lo hl (by decide))) hc, dr_ne h13 (Or.inl (dr_lo hl (by decide))) hc, dr_ne h14 (Or.inl (dr_lo hl (by decide))) hc, dr_ne h15 (Or.inl (dr_lo hl (by decide))) hc, dr_ne h16 (Or.inl (dr_lo hl (by decide))) hc, dr_ne h17 (Or.inl (dr_lo hl (by decide))) hc, dr_ne h18 (Or.inl (dr_lo hl (by decide))) hc, dr_ne h19 (Or.inl (dr_lo hl (by decide))) hc, dr_ne h20 (Or.inl (dr_lo hl (by decide))) hc, dr_ne h21 (Or.inl (dr_lo hl (by decide))) hc, dr_ne h22 (Or.inl (dr_lo hl (by decide))) hc⟩
theorem dr_u9 {M : Nat} {f : Int32} {a1 a2 a3 a4 a5 a6 a7 a8 a9 a10 a11 a12 a13 a14 a15 a16 a17 a18 a19 a20 a21 a22 : Nat → Int32} (hR : dx_R a b M (f, a1, a2, a3, a4, a5, a6, a7, a8, a9, a10, a11, a12, a13, a14, a15, a16, a17, a18, a19, a20, a21, a22)) {d c M' : Nat} {x w : Int32} {g : Nat → Int32} (hv : dx_v a b d x) (hl : d < 240) (hw : dx_v a b c w) (hc : c < 65536) (hM : M' = dx_se M (Nat.add 569 d) c) (hg : g = upd a9 x.toNatClampNeg w) : dx_R a b M' (f, a1, a2, a3, a4, a5, a6, a7, a8, g, a10, a11, a12, a13, a14, a15, a16, a17, a18, a19, a20, a21, a22) := by
  replace hM : M' = dx_se M (569 + d) c := hM
  have hQ : dx_Q a b M f a1 a2 a3 a4 a5 a6 a7 a8 a9 a10 a11 a12 a13 a14 a15 a16 a17 a18 a19 a20 a21 a22 := hR
  obtain ⟨h0, h1, h2, h3, h4, h5, h6, h7, h8, h9, h10, h11, h12, h13, h14, h15, h16, h17, h18, h19, h20, h21, h22⟩ := hQ
  rw [hM, hg]
  have h0' : dx_v a b (dx_ce (dx_se M (569 + d) c) 0) f := by
    rw [dx_cs_ne hc (Nat.ne_of_gt (dr_ge (by decide)))]
    exact h0
  show dx_Q a b (dx_se M (569 + d) c) f a1 a2 a3 a4 a5 a6 a7 a8 (upd a9 x.toNatClampNeg w) a10 a11 a12 a13 a14 a15 a16 a17 a18 a19 a20 a21 a22
  exact ⟨h0', dr_ne h1 (Or.inr (dr_ge (by decide))) hc, dr_ne h2 (Or.inr (dr_ge (by decide))) hc, dr_ne h3 (Or.inr (dr_ge (by decide))) hc, dr_ne h4 (Or.inr (dr_ge (by decide))) hc, dr_ne h5 (Or.inr (dr_ge (by decide))) hc, dr_ne h6 (Or.inr (dr_ge (by decide))) hc, dr_ne h7 (Or.inr (dr_ge (by decide))) hc, dr_ne h8 (Or.inr (dr_ge (by decide))) hc, dr_eq h9 hv hl (by decide) hw hc, dr_ne h10 (Or.inl (dr_lo hl (by decide))) hc, dr_ne h11 (Or.inl (dr_lo hl (by decide))) hc, dr_ne h12 (Or.inl (dr_lo hl (by decide))) hc, dr_ne h13 (Or.inl (dr_lo hl (by decide))) hc, dr_ne h14 (Or.inl (dr_lo hl (by decide))) hc, dr_ne h15 (Or.inl (dr_lo hl (by decide))) hc, dr_ne h16 (Or.inl (dr_lo hl (by decide))) hc, dr_ne h17 (Or.inl (dr_lo hl (by decide))) hc, dr_ne h18 (Or.inl (dr_lo hl (by decide))) hc, dr_ne h19 (Or.inl (dr_lo hl (by decide))) hc, dr_ne h20 (Or.inl (dr_lo hl (by decide))) hc, dr_ne h21 (Or.inl (dr_lo hl (by decide))) hc, dr_ne h22 (Or.inl (dr_lo hl (by decide))) hc⟩
theorem dr_u10 {M : Nat} {f : Int32} {a1 a2 a3 a4 a5 a6 a7 a8 a9 a10 a11 a12 a13 a14 a15 a16 a17 a18 a19 a20 a21 a22 : Nat → Int32} (hR : dx_R a b M (f, a1, a2, a3, a4, a5, a6, a7, a8, a9, a10, a11, a12, a13, a14, a15, a16, a17, a18, a19, a20, a21, a22)) {d c M' : Nat} {x w : Int32} {g : Nat → Int32} (hv : dx_v a b d x) (hl : d < 240) (hw : dx_v a b c w) (hc : c < 65536) (hM : M' = dx_se M (Nat.add 809 d) c) (hg : g = upd a10 x.toNatClampNeg w) : dx_R a b M' (f, a1, a2, a3, a4, a5, a6, a7, a8, a9, g, a11, a12, a13, a14, a15, a16, a17, a18, a19, a20, a21, a22) := by
  replace hM : M' = dx_se M (809 + d) c := hM
  have hQ : dx_Q a b M f a1 a2 a3 a4 a5 a6 a7 a8 a9 a10 a11 a12 a13 a14 a15 a16 a17 a18 a19 a20 a21 a22 := hR
  obtain ⟨h0, h1, h2, h3, h4, h5, h6, h7, h8, h9, h10, h11, h12, h13, h14, h15, h16, h17, h18, h19, h20, h21, h22⟩ := hQ
  rw [hM, hg]
  have h0' : dx_v a b (dx_ce (dx_se M (809 + d) c) 0) f := by
    rw [dx_cs_ne hc (Nat.ne_of_gt (dr_ge (by decide)))]
    exact h0
  show dx_Q a b (dx_se M (809 + d) c) f a1 a2 a3 a4 a5 a6 a7 a8 a9 (upd a10 x.toNatClampNeg w) a11 a12 a13 a14 a15 a16 a17 a18 a19 a20 a21 a22
  exact ⟨h0', dr_ne h1 (Or.inr (dr_ge (by decide))) hc, dr_ne h2 (Or.inr (dr_ge (by decide))) hc, dr_ne h3 (Or.inr (dr_ge (by decide))) hc, dr_ne h4 (Or.inr (dr_ge (by decide))) hc, dr_ne h5 (Or.inr (dr_ge (by decide))) hc, dr_ne h6 (Or.inr (dr_ge (by decide))) hc, dr_ne h7 (Or.inr (dr_ge (by decide))) hc, dr_ne h8 (Or.inr (dr_ge (by decide))) hc, dr_ne h9 (Or.inr (dr_ge (by decide))) hc, dr_eq h10 hv hl (by decide) hw hc, dr_ne h11 (Or.inl (dr_lo hl (by decide))) hc, dr_ne h12 (Or.inl (dr_lo hl (by decide))) hc, dr_ne h13 (Or.inl (dr_lo hl (by decide))) hc, dr_ne h14 (Or.inl (dr_lo hl (by decide))) hc, dr_ne h15 (Or.inl (dr_lo hl (by decide))) hc, dr_ne h16 (Or.inl (dr_lo hl (by decide))) hc, dr_ne h17 (Or.inl (dr_lo hl (by decide))) hc, dr_ne h18 (Or.inl (dr_lo hl (by decide))) hc, dr_ne h19 (Or.inl (dr_lo hl (by decide))) hc, dr_ne h20 (Or.inl (dr_lo hl (by decide))) hc, dr_ne h21 (Or.inl (dr_lo hl (by decide))) hc, dr_ne h22 (Or.inl (dr_lo hl (by decide))) hc⟩
theorem dr_u11 {M : Nat} {f : Int32} {a1 a2 a3 a4 a5 a6 a7 a8 a9 a10 a11 a12 a13 a14 a15 a16 a17 a18 a19 a20 a21 a22 : Nat → Int32} (hR : dx_R a b M (f, a1, a2, a3, a4, a5, a6, a7, a8, a9, a10, a11, a12, a13, a14, a15, a16, a17, a18, a19, a20, a21, a22)) {d c M' : Nat} {x w : Int32} {g : Nat → Int32} (hv : dx_v a b d x) (hl : d < 240) (hw : dx_v a b c w) (hc : c < 65536) (hM : M' = dx_se M (Nat.add 1049 d) c) (hg : g = upd a11 x.toNatClampNeg w) : dx_R a b M' (f, a1, a2, a3, a4, a5, a6, a7, a8, a9, a10, g, a12, a13, a14, a15, a16, a17, a18, a19, a20, a21, a22) := by
  replace hM : M' = dx_se M (1049 + d) c := hM
  have hQ : dx_Q a b M f a1 a2 a3 a4 a5 a6 a7 a8 a9 a10 a11 a12 a13 a14 a15 a16 a17 a18 a19 a20 a21 a22 := hR
  obtain ⟨h0, h1, h2, h3, h4, h5, h6, h7, h8, h9, h10, h11, h12, h13, h14, h15, h16, h17, h18, h19, h20, h21, h22⟩ := hQ
  rw [hM, hg]
  have h0' : dx_v a b (dx_ce (dx_se M (1049 + d) c) 0) f := by
    rw [dx_cs_ne hc (Nat.ne_of_gt (dr_ge (by decide)))]
    exact h0
  show dx_Q a b (dx_se M (1049 + d) c) f a1 a2 a3 a4 a5 a6 a7 a8 a9 a10 (upd a11 x.toNatClampNeg w) a12 a13 a14 a15 a16 a17 a18 a19 a20 a21 a22
  exact ⟨h0', dr_ne h1 (Or.inr (dr_ge (by decide))) hc, dr_ne h2 (Or.inr (dr_ge (by decide))) hc, dr_ne h3 (Or.inr (dr_ge (by decide))) hc, dr_ne h4 (Or.inr (dr_ge (by decide))) hc, dr_ne h5 (Or.inr (dr_ge (by decide))) hc, dr_ne h6 (Or.inr (dr_ge (by decide))) hc, dr_ne h7 (Or.inr (dr_ge (by decide))) hc, dr_ne h8 (Or.inr (dr_ge (by decide))) hc, dr_ne h9 (Or.inr (dr_ge (by decide))) hc, dr_ne h10 (Or.inr (dr_ge (by decide))) hc, dr_eq h11 hv hl (by decide) hw hc, dr_ne h12 (Or.inl (dr_lo hl (by decide))) hc, dr_ne h13 (Or.inl (dr_lo hl (by decide))) hc, dr_ne h14 (Or.inl (dr_lo hl (by decide))) hc, dr_ne h15 (Or.inl (dr_lo hl (by decide))) hc, dr_ne h16 (Or.inl (dr_lo hl (by decide))) hc, dr_ne h17 (Or.inl (dr_lo hl (by decide))) hc, dr_ne h18 (Or.inl (dr_lo hl (by decide))) hc, dr_ne h19 (Or.inl (dr_lo hl (by decide))) hc, dr_ne h20 (Or.inl (dr_lo hl (by decide))) hc, dr_ne h21 (Or.inl (dr_lo hl (by decide))) hc, dr_ne h22 (Or.inl (dr_lo hl (by decide))) hc⟩
theorem dr_u12 {M : Nat} {f : Int32} {a1 a2 a3 a4 a5 a6 a7 a8 a9 a10 a11 a12 a13 a14 a15 a16 a17 a18 a19 a20 a21 a22 : Nat → Int32} (hR : dx_R a b M (f, a1, a2, a3, a4, a5, a6, a7, a8, a9, a10, a11, a12, a13, a14, a15, a16, a17, a18, a19, a20, a21, a22)) {d c M' : Nat} {x w : Int32} {g : Nat → Int32} (hv : dx_v a b d x) (hl : d < 24) (hw : dx_v a b c w) (hc : c < 65536) (hM : M' = dx_se M (Nat.add 1289 d) c) (hg : g = upd a12 x.toNatClampNeg w) : dx_R a b M' (f, a1, a2, a3, a4, a5, a6, a7, a8, a9, a10, a11, g, a13, a14, a15, a16, a17, a18, a19, a20, a21, a22) := by
  replace hM : M' = dx_se M (1289 + d) c := hM
  have hQ : dx_Q a b M f a1 a2 a3 a4 a5 a6 a7 a8 a9 a10 a11 a12 a13 a14 a15 a16 a17 a18 a19 a20 a21 a22 := hR
  obtain ⟨h0, h1, h2, h3, h4, h5, h6, h7, h8, h9, h10, h11, h12, h13, h14, h15, h16, h17, h18, h19, h20, h21, h22⟩ := hQ
  rw [hM, hg]
  have h0' : dx_v a b (dx_ce (dx_se M (1289 + d) c) 0) f := by
    rw [dx_cs_ne hc (Nat.ne_of_gt (dr_ge (by decide)))]
    exact h0
  show dx_Q a b (dx_se M (1289 + d) c) f a1 a2 a3 a4 a5 a6 a7 a8 a9 a10 a11 (upd a12 x.toNatClampNeg w) a13 a14 a15 a16 a17 a18 a19 a20 a21 a22
  exact ⟨h0', dr_ne h1 (Or.inr (dr_ge (by decide))) hc, dr_ne h2 (Or.inr (dr_ge (by decide))) hc, dr_ne h3 (Or.inr (dr_ge (by decide))) hc, dr_ne h4 (Or.inr (dr_ge (by decide))) hc, dr_ne h5 (Or.inr (dr_ge (by decide))) hc, dr_ne h6 (Or.inr (dr_ge (by decide))) hc, dr_ne h7 (Or.inr (dr_ge (by decide))) hc, dr_ne h8 (Or.inr (dr_ge (by decide))) hc, dr_ne h9 (Or.inr (dr_ge (by decide))) hc, dr_ne h10 (Or.inr (dr_ge (by decide))) hc, dr_ne h11 (Or.inr (dr_ge (by decide))) hc, dr_eq h12 hv hl (by decide) hw hc, dr_ne h13 (Or.inl (dr_lo hl (by decide))) hc, dr_ne h14 (Or.inl (dr_lo hl (by decide))) hc, dr_ne h15 (Or.inl (dr_lo hl (by decide))) hc, dr_ne h16 (Or.inl (dr_lo hl (by decide))) hc, dr_ne h17 (Or.inl (dr_lo hl (by decide))) hc, dr_ne h18 (Or.inl (dr_lo hl (by decide))) hc, dr_ne h19 (Or.inl (dr_lo hl (by decide))) hc, dr_ne h20 (Or.inl (dr_lo hl (by decide))) hc, dr_ne h21 (Or.inl (dr_lo hl (by decide))) hc, dr_ne h22 (Or.inl (dr_lo hl (by decide))) hc⟩
theorem dr_u13 {M : Nat} {f : Int32} {a1 a2 a3 a4 a5 a6 a7 a8 a9 a10 a11 a12 a13 a14 a15 a16 a17 a18 a19 a20 a21 a22 : Nat → Int32} (hR : dx_R a b M (f, a1, a2, a3, a4, a5, a6, a7, a8, a9, a10, a11, a12, a13, a14, a15, a16, a17, a18, a19, a20, a21, a22)) {d c M' : Nat} {x w : Int32} {g : Nat → Int32} (hv : dx_v a b d x) (hl : d < 1920) (hw : dx_v a b c w) (hc : c < 65536) (hM : M' = dx_se M (Nat.add 1313 d) c) (hg : g = upd a13 x.toNatClampNeg w) : dx_R a b M' (f, a1, a2, a3, a4, a5, a6, a7, a8, a9, a10, a11, a12, g, a14, a15, a16, a17, a18, a19, a20, a21, a22) := by
  replace hM : M' = dx_se M (1313 + d) c := hM
  have hQ : dx_Q a b M f a1 a2 a3 a4 a5 a6 a7 a8 a9 a10 a11 a12 a13 a14 a15 a16 a17 a18 a19 a20 a21 a22 := hR
  obtain ⟨h0, h1, h2, h3, h4, h5, h6, h7, h8, h9, h10, h11, h12, h13, h14, h15, h16, h17, h18, h19, h20, h21, h22⟩ := hQ
  rw [hM, hg]
  have h0' : dx_v a b (dx_ce (dx_se M (1313 + d) c) 0) f := by
    rw [dx_cs_ne hc (Nat.ne_of_gt (dr_ge (by decide)))]
    exact h0
  show dx_Q a b (dx_se M (1313 + d) c) f a1 a2 a3 a4 a5 a6 a7 a8 a9 a10 a11 a12 (upd a13 x.toNatClampNeg w) a14 a15 a16 a17 a18 a19 a20 a21 a22
  exact ⟨h0', dr_ne h1 (Or.inr (dr_ge (by decide))) hc, dr_ne h2 (Or.inr (dr_ge (by decide))) hc, dr_ne h3 (Or.inr (dr_ge (by decide))) hc, dr_ne h4 (Or.inr (dr_ge (by decide))) hc, dr_ne h5 (Or.inr (dr_ge (by decide))) hc, dr_ne h6 (Or.inr (dr_ge (by decide))) hc, dr_ne h7 (Or.inr (dr_ge (by decide))) hc, dr_ne h8 (Or.inr (dr_ge (by decide))) hc, dr_ne h9 (Or.inr (dr_ge (by decide))) hc, dr_ne h10 (Or.inr (dr_ge (by decide))) hc, dr_ne h11 (Or.inr (dr_ge (by decide))) hc, dr_ne h12 (Or.inr (dr_ge (by decide))) hc, dr_eq h13 hv hl (by decide) hw hc, dr_ne h14 (Or.inl (dr_lo hl (by decide))) hc, dr_ne h15 (Or.inl (dr_lo hl (by decide))) hc, dr_ne h16 (Or.inl (dr_lo hl (by decide))) hc, dr_ne h17 (Or.inl (dr_lo hl (by decide))) hc, dr_ne h18 (Or.inl (dr_lo hl (by decide))) hc, dr_ne h19 (Or.inl (dr_lo hl (by decide))) hc, dr_ne h20 (Or.inl (dr_lo hl (by decide))) hc, dr_ne h21 (Or.inl (dr_lo hl (by decide))) hc, dr_ne h22 (Or.inl (dr_lo hl (by decide))) hc⟩
theorem dr_u14 {M : Nat} {f : Int32} {a1 a2 a3 a4 a5 a6 a7 a8 a9 a10 a11 a12 a13 a14 a15 a16 a17 a18 a19 a20 a21 a22 : Nat → Int32} (hR : dx_R a b M (f, a1, a2, a3, a4, a5, a6, a7, a8, a9, a10, a11, a12, a13, a14, a15, a16, a17, a18, a19, a20, a21, a22)) {d c M' : Nat} {x w : Int32} {g : Nat → Int32} (hv : dx_v a b d x) (hl : d < 3) (hw : dx_v a b c w) (hc : c < 65536) (hM : M' = dx_se M (Nat.add 3233 d) c) (hg : g = upd a14 x.toNatClampNeg w) : dx_R a b M' (f, a1, a2, a3, a4, a5, a6, a7, a8, a9, a10, a11, a12, a13, g, a15, a16, a17, a18, a19, a20, a21, a22) := by
  replace hM : M' = dx_se M (3233 + d) c := hM
  have hQ : dx_Q a b M f a1 a2 a3 a4 a5 a6 a7 a8 a9 a10 a11 a12 a13 a14 a15 a16 a17 a18 a19 a20 a21 a22 := hR
  obtain ⟨h0, h1, h2, h3, h4, h5, h6, h7, h8, h9, h10, h11, h12, h13, h14, h15, h16, h17, h18, h19, h20, h21, h22⟩ := hQ
  rw [hM, hg]
  have h0' : dx_v a b (dx_ce (dx_se M (3233 + d) c) 0) f := by
    rw [dx_cs_ne hc (Nat.ne_of_gt (dr_ge (by decide)))]
    exact h0
  show dx_Q a b (dx_se M (3233 + d) c) f a1 a2 a3 a4 a5 a6 a7 a8 a9 a10 a11 a12 a13 (upd a14 x.toNatClampNeg w) a15 a16 a17 a18 a19 a20 a21 a22
  exact ⟨h0', dr_ne h1 (Or.inr (dr_ge (by decide))) hc, dr_ne h2 (Or.inr (dr_ge (by decide))) hc, dr_ne h3 (Or.inr (dr_ge (by decide))) hc, dr_ne h4 (Or.inr (dr_ge (by decide))) hc, dr_ne h5 (Or.inr (dr_ge (by decide))) hc, dr_ne h6 (Or.inr (dr_ge (by decide))) hc, dr_ne h7 (Or.inr (dr_ge (by decide))) hc, dr_ne h8 (Or.inr (dr_ge (by decide))) hc, dr_ne h9 (Or.inr (dr_ge (by decide))) hc, dr_ne h10 (Or.inr (dr_ge (by decide))) hc, dr_ne h11 (Or.inr (dr_ge (by decide))) hc, dr_ne h12 (Or.inr (dr_ge (by decide))) hc, dr_ne h13 (Or.inr (dr_ge (by decide))) hc, dr_eq h14 hv hl (by decide) hw hc, dr_ne h15 (Or.inl (dr_lo hl (by decide))) hc, dr_ne h16 (Or.inl (dr_lo hl (by decide))) hc, dr_ne h17 (Or.inl (dr_lo hl (by decide))) hc, dr_ne h18 (Or.inl (dr_lo hl (by decide))) hc, dr_ne h19 (Or.inl (dr_lo hl (by decide))) hc, dr_ne h20 (Or.inl (dr_lo hl (by decide))) hc, dr_ne h21 (Or.inl (dr_lo hl (by decide))) hc, dr_ne h22 (Or.inl (dr_lo hl (by decide))) hc⟩
theorem dr_u15 {M : Nat} {f : Int32} {a1 a2 a3 a4 a5 a6 a7 a8 a9 a10 a11 a12 a13 a14 a15 a16 a17 a18 a19 a20 a21 a22 : Nat → Int32} (hR : dx_R a b M (f, a1, a2, a3, a4, a5, a6, a7, a8, a9, a10, a11, a12, a13, a14, a15, a16, a17, a18, a19, a20, a21, a22)) {d c M' : Nat} {x w : Int32} {g : Nat → Int32} (hv : dx_v a b d x) (hl : d < 24) (hw : dx_v a b c w) (hc : c < 65536) (hM : M' = dx_se M (Nat.add 3236 d) c) (hg : g = upd a15 x.toNatClampNeg w) : dx_R a b M' (f, a1, a2, a3, a4, a5, a6, a7, a8, a9, a10, a11, a12, a13, a14, g, a16, a17, a18, a19, a20, a21, a22) := by
  replace hM : M' = dx_se M (3236 + d) c := hM
  have hQ : dx_Q a b M f a1 a2 a3 a4 a5 a6 a7 a8 a9 a10 a11 a12 a13 a14 a15 a16 a17 a18 a19 a20 a21 a22 := hR
  obtain ⟨h0, h1, h2, h3, h4, h5, h6, h7, h8, h9, h10, h11, h12, h13, h14, h15, h16, h17, h18, h19, h20, h21, h22⟩ := hQ
  rw [hM, hg]
  have h0' : dx_v a b (dx_ce (dx_se M (3236 + d) c) 0) f := by
    rw [dx_cs_ne hc (Nat.ne_of_gt (dr_ge (by decide)))]
    exact h0
  show dx_Q a b (dx_se M (3236 + d) c) f a1 a2 a3 a4 a5 a6 a7 a8 a9 a10 a11 a12 a13 a14 (upd a15 x.toNatClampNeg w) a16 a17 a18 a19 a20 a21 a22
  exact ⟨h0', dr_ne h1 (Or.inr (dr_ge (by decide))) hc, dr_ne h2 (Or.inr (dr_ge (by decide))) hc, dr_ne h3 (Or.inr (dr_ge (by decide))) hc, dr_ne h4 (Or.inr (dr_ge (by decide))) hc, dr_ne h5 (Or.inr (dr_ge (by decide))) hc, dr_ne h6 (Or.inr (dr_ge (by decide))) hc, dr_ne h7 (Or.inr (dr_ge (by decide))) hc, dr_ne h8 (Or.inr (dr_ge (by decide))) hc, dr_ne h9 (Or.inr (dr_ge (by decide))) hc, dr_ne h10 (Or.inr (dr_ge (by decide))) hc, dr_ne h11 (Or.inr (dr_ge (by decide))) hc, dr_ne h12 (Or.inr (dr_ge (by decide))) hc, dr_ne h13 (Or.inr (dr_ge (by decide))) hc, dr_ne h14 (Or.inr (dr_ge (by decide))) hc, dr_eq h15 hv hl (by decide) hw hc, dr_ne h16 (Or.inl (dr_lo hl (by decide))) hc, dr_ne h17 (Or.inl (dr_lo hl (by decide))) hc, dr_ne h18 (Or.inl (dr_lo hl (by decide))) hc, dr_ne h19 (Or.inl (dr_lo hl (by decide))) hc, dr_ne h20 (Or.inl (dr_lo hl (by decide))) hc, dr_ne h21 (Or.inl (dr_lo hl (by decide))) hc, dr_ne h22 (Or.inl (dr_lo hl (by decide))) hc⟩
theorem dr_u16 {M : Nat} {f : Int32} {a1 a2 a3 a4 a5 a6 a7 a8 a9 a10 a11 a12 a13 a14 a15 a16 a17 a18 a19 a20 a21 a22 : Nat → Int32} (hR : dx_R a b M (f, a1, a2, a3, a4, a5, a6, a7, a8, a9, a10, a11, a12, a13, a14, a15, a16, a17, a18, a19, a20, a21, a22)) {d c M' : Nat} {x w : Int32} {g : Nat → Int32} (hv : dx_v a b d x) (hl : d < 9) (hw : dx_v a b c w) (hc : c < 65536) (hM : M' = dx_se M (Nat.add 3260 d) c) (hg : g = upd a16 x.toNatClampNeg w) : dx_R a b M' (f, a1, a2, a3, a4, a5, a6, a7, a8, a9, a10, a11, a12, a13, a14, a15, g, a17, a18, a19, a20, a21, a22) := by
  replace hM : M' = dx_se M (3260 + d) c := hM
  have hQ : dx_Q a b M f a1 a2 a3 a4 a5 a6 a7 a8 a9 a10 a11 a12 a13 a14 a15 a16 a17 a18 a19 a20 a21 a22 := hR
  obtain ⟨h0, h1, h2, h3, h4, h5, h6, h7, h8, h9, h10, h11, h12, h13, h14, h15, h16, h17, h18, h19, h20, h21, h22⟩ := hQ
  rw [hM, hg]
  have h0' : dx_v a b (dx_ce (dx_se M (3260 + d) c) 0) f := by
    rw [dx_cs_ne hc (Nat.ne_of_gt (dr_ge (by decide)))]
    exact h0
  show dx_Q a b (dx_se M (3260 + d) c) f a1 a2 a3 a4 a5 a6 a7 a8 a9 a10 a11 a12 a13 a14 a15 (upd a16 x.toNatClampNeg w) a17 a18 a19 a20 a21 a22
  exact ⟨h0', dr_ne h1 (Or.inr (dr_ge (by decide))) hc, dr_ne h2 (Or.inr (dr_ge (by decide))) hc, dr_ne h3 (Or.inr (dr_ge (by decide))) hc, dr_ne h4 (Or.inr (dr_ge (by decide))) hc, dr_ne h5 (Or.inr (dr_ge (by decide))) hc, dr_ne h6 (Or.inr (dr_ge (by decide))) hc, dr_ne h7 (Or.inr (dr_ge (by decide))) hc, dr_ne h8 (Or.inr (dr_ge (by decide))) hc, dr_ne h9 (Or.inr (dr_ge (by decide))) hc, dr_ne h10 (Or.inr (dr_ge (by decide))) hc, dr_ne h11 (Or.inr (dr_ge (by decide))) hc, dr_ne h12 (Or.inr (dr_ge (by decide))) hc, dr_ne h13 (Or.inr (dr_ge (by decide))) hc, dr_ne h14 (Or.inr (dr_ge (by decide))) hc, dr_ne h15 (Or.inr (dr_ge (by decide))) hc, dr_eq h16 hv hl (by decide) hw hc, dr_ne h17 (Or.inl (dr_lo hl (by decide))) hc, dr_ne h18 (Or.inl (dr_lo hl (by decide))) hc, dr_ne h19 (Or.inl (dr_lo hl (by decide))) hc, dr_ne h20 (Or.inl (dr_lo hl (by decide))) hc, dr_ne h21 (Or.inl (dr_lo hl (by decide))) hc, dr_ne h22 (Or.inl (dr_lo hl (by decide))) hc⟩
theorem dr_u17 {M : Nat} {f : Int32} {a1 a2 a3 a4 a5 a6 a7 a8 a9 a10 a11 a12 a13 a14 a15 a16 a17 a18 a19 a20 a21 a22 : Nat → Int32} (hR : dx_R a b M (f, a1, a2, a3, a4, a5, a6, a7, a8, a9, a10, a11, a12, a13, a14, a15, a16, a17, a18, a19, a20, a21, a22)) {d c M' : Nat} {x w : Int32} {g : Nat → Int32} (hv : dx_v a b d x) (hl : d < 3) (hw : dx_v a b c w) (hc : c < 65536) (hM : M' = dx_se M (Nat.add 3269 d) c) (hg : g = upd a17 x.toNatClampNeg w) : dx_R a b M' (f, a1, a2, a3, a4, a5, a6, a7, a8, a9, a10, a11, a12, a13, a14, a15, a16, g, a18, a19, a20, a21, a22) := by
  replace hM : M' = dx_se M (3269 + d) c := hM
  have hQ : dx_Q a b M f a1 a2 a3 a4 a5 a6 a7 a8 a9 a10 a11 a12 a13 a14 a15 a16 a17 a18 a19 a20 a21 a22 := hR
  obtain ⟨h0, h1, h2, h3, h4, h5, h6, h7, h8, h9, h10, h11, h12, h13, h14, h15, h16, h17, h18, h19, h20, h21, h22⟩ := hQ
  rw [hM, hg]
  have h0' : dx_v a b (dx_ce (dx_se M (3269 + d) c) 0) f := by
    rw [dx_cs_ne hc (Nat.ne_of_gt (dr_ge (by decide)))]
    exact h0
  show dx_Q a b (dx_se M (3269 + d) c) f a1 a2 a3 a4 a5 a6 a7 a8 a9 a10 a11 a12 a13 a14 a15 a16 (upd a17 x.toNatClampNeg w) a18 a19 a20 a21 a22
  exact ⟨h0', dr_ne h1 (Or.inr (dr_ge (by decide))) hc, dr_ne h2 (Or.inr (dr_ge (by decide))) hc, dr_ne h3 (Or.inr (dr_ge (by decide))) hc, dr_ne h4 (Or.inr (dr_ge (by decide))) hc, dr_ne h5 (Or.inr (dr_ge (by decide))) hc, dr_ne h6 (Or.inr (dr_ge (by decide))) hc, dr_ne h7 (Or.inr (dr_ge (by decide))) hc, dr_ne h8 (Or.inr (dr_ge (by decide))) hc, dr_ne h9 (Or.inr (dr_ge (by decide))) hc, dr_ne h10 (Or.inr (dr_ge (by decide))) hc, dr_ne h11 (Or.inr (dr_ge (by decide))) hc, dr_ne h12 (Or.inr (dr_ge (by decide))) hc, dr_ne h13 (Or.inr (dr_ge (by decide))) hc, dr_ne h14 (Or.inr (dr_ge (by decide))) hc, dr_ne h15 (Or.inr (dr_ge (by decide))) hc, dr_ne h16 (Or.inr (dr_ge (by decide))) hc, dr_eq h17 hv hl (by decide) hw hc, dr_ne h18 (Or.inl (dr_lo hl (by decide))) hc, dr_ne h19 (Or.inl (dr_lo hl (by decide))) hc, dr_ne h20 (Or.inl (dr_lo hl (by decide))) hc, dr_ne h21 (Or.inl (dr_lo hl (by decide))) hc, dr_ne h22 (Or.inl (dr_lo hl (by decide))) hc⟩
theorem dr_u18 {M : Nat} {f : Int32} {a1 a2 a3 a4 a5 a6 a7 a8 a9 a10 a11 a12 a13 a14 a15 a16 a17 a18 a19 a20 a21 a22 : Nat → Int32} (hR : dx_R a b M (f, a1, a2, a3, a4, a5, a6, a7, a8, a9, a10, a11, a12, a13, a14, a15, a16, a17, a18, a19, a20, a21, a22)) {d c M' : Nat} {x w : Int32} {g : Nat → Int32} (hv : dx_v a b d x) (hl : d < 24) (hw : dx_v a b c w) (hc : c < 65536) (hM : M' = dx_se M (Nat.add 3272 d) c) (hg : g = upd a18 x.toNatClampNeg w) : dx_R a b M' (f, a1, a2, a3, a4, a5, a6, a7, a8, a9, a10, a11, a12, a13, a14, a15, a16, a17, g, a19, a20, a21, a22) := by
  replace hM : M' = dx_se M (3272 + d) c := hM
  have hQ : dx_Q a b M f a1 a2 a3 a4 a5 a6 a7 a8 a9 a10 a11 a12 a13 a14 a15 a16 a17 a18 a19 a20 a21 a22 := hR
  obtain ⟨h0, h1, h2, h3, h4, h5, h6, h7, h8, h9, h10, h11, h12, h13, h14, h15, h16, h17, h18, h19, h20, h21, h22⟩ := hQ
  rw [hM, hg]
  have h0' : dx_v a b (dx_ce (dx_se M (3272 + d) c) 0) f := by
    rw [dx_cs_ne hc (Nat.ne_of_gt (dr_ge (by decide)))]
    exact h0
  show dx_Q a b (dx_se M (3272 + d) c) f a1 a2 a3 a4 a5 a6 a7 a8 a9 a10 a11 a12 a13 a14 a15 a16 a17 (upd a18 x.toNatClampNeg w) a19 a20 a21 a22
  exact ⟨h0', dr_ne h1 (Or.inr (dr_ge (by decide))) hc, dr_ne h2 (Or.inr (dr_ge (by decide))) hc, dr_ne h3 (Or.inr (dr_ge (by decide))) hc, dr_ne h4 (Or.inr (dr_ge (by decide))) hc, dr_ne h5 (Or.inr (dr_ge (by decide))) hc, dr_ne h6 (Or.inr (dr_ge (by decide))) hc, dr_ne h7 (Or.inr (dr_ge (by decide))) hc, dr_ne h8 (Or.inr (dr_ge (by decide))) hc, dr_ne h9 (Or.inr (dr_ge (by decide))) hc, dr_ne h10 (Or.inr (dr_ge (by decide))) hc, dr_ne h11 (Or.inr (dr_ge (by decide))) hc, dr_ne h12 (Or.inr (dr_ge (by decide))) hc, dr_ne h13 (Or.inr (dr_ge (by decide))) hc, dr_ne h14 (Or.inr (dr_ge (by decide))) hc, dr_ne h15 (Or.inr (dr_ge (by decide))) hc, dr_ne h16 (Or.inr (dr_ge (by decide))) hc, dr_ne h17 (Or.inr (dr_ge (by decide))) hc, dr_eq h18 hv hl (by decide) hw hc, dr_ne h19 (Or.inl (dr_lo hl (by decide))) hc, dr_ne h20 (Or.inl (dr_lo hl (by decide))) hc, dr_ne h21 (Or.inl (dr_lo hl (by decide))) hc, dr_ne h22 (Or.inl (dr_lo hl (by decide))) hc⟩
theorem dr_u19 {M : Nat} {f : Int32} {a1 a2 a3 a4 a5 a6 a7 a8 a9 a10 a11 a12 a13 a14 a15 a16 a17 a18 a19 a20 a21 a22 : Nat → Int32} (hR : dx_R a b M (f, a1, a2, a3, a4, a5, a6, a7, a8, a9, a10, a11, a12, a13, a14, a15, a16, a17, a18, a19, a20, a21, a22)) {d c M' : Nat} {x w : Int32} {g : Nat → Int32} (hv : dx_v a b d x) (hl : d < 24) (hw : dx_v a b c w) (hc : c < 65536) (hM : M' = dx_se M (Nat.add 3296 d) c) (hg : g = upd a19 x.toNatClampNeg w) : dx_R a b M' (f, a1, a2, a3, a4, a5, a6, a7, a8, a9, a10, a11, a12, a13, a14, a15, a16, a17, a18, g, a20, a21, a22) := by
  replace hM : M' = dx_se M (3296 + d) c := hM
  have hQ : dx_Q a b M f a1 a2 a3 a4 a5 a6 a7 a8 a9 a10 a11 a12 a13 a14 a15 a16 a17 a18 a19 a20 a21 a22 := hR
  obtain ⟨h0, h1, h2, h3, h4, h5, h6, h7, h8, h9, h10, h11, h12, h13, h14, h15, h16, h17, h18, h19, h20, h21, h22⟩ := hQ
  rw [hM, hg]
  have h0' : dx_v a b (dx_ce (dx_se M (3296 + d) c) 0) f := by
    rw [dx_cs_ne hc (Nat.ne_of_gt (dr_ge (by decide)))]
    exact h0
  show dx_Q a b (dx_se M (3296 + d) c) f a1 a2 a3 a4 a5 a6 a7 a8 a9 a10 a11 a12 a13 a14 a15 a16 a17 a18 (upd a19 x.toNatClampNeg w) a20 a21 a22
  exact ⟨h0', dr_ne h1 (Or.inr (dr_ge (by decide))) hc, dr_ne h2 (Or.inr (dr_ge (by decide))) hc, dr_ne h3 (Or.inr (dr_ge (by decide))) hc, dr_ne h4 (Or.inr (dr_ge (by decide))) hc, dr_ne h5 (Or.inr (dr_ge (by decide))) hc, dr_ne h6 (Or.inr (dr_ge (by decide))) hc, dr_ne h7 (Or.inr (dr_ge (by decide))) hc, dr_ne h8 (Or.inr (dr_ge (by decide))) hc, dr_ne h9 (Or.inr (dr_ge (by decide))) hc, dr_ne h10 (Or.inr (dr_ge (by decide))) hc, dr_ne h11 (Or.inr (dr_ge (by decide))) hc, dr_ne h12 (Or.inr (dr_ge (by decide))) hc, dr_ne h13 (Or.inr (dr_ge (by decide))) hc, dr_ne h14 (Or.inr (dr_ge (by decide))) hc, dr_ne h15 (Or.inr (dr_ge (by decide))) hc, dr_ne h16 (Or.inr (dr_ge (by decide))) hc, dr_ne h17 (Or.inr (dr_ge (by decide))) hc, dr_ne h18 (Or.inr (dr_ge (by decide))) hc, dr_eq h19 hv hl (by decide) hw hc, dr_ne h20 (Or.inl (dr_lo hl (by decide))) hc, dr_ne h21 (Or.inl (dr_lo hl (by decide))) hc, dr_ne h22 (Or.inl (dr_lo hl (by decide))) hc⟩
theorem dr_u20 {M : Nat} {f : Int32} {a1 a2 a3 a4 a5 a6 a7 a8 a9 a10 a11 a12 a13 a14 a15 a16 a17 a18 a19 a20 a21 a22 : Nat → Int32} (hR : dx_R a b M (f, a1, a2, a3, a4, a5, a6, a7, a8, a9, a10, a11, a12, a13, a14, a15, a16, a17, a18, a19, a20, a21, a22)) {d c M' : Nat} {x w : Int32} {g : Nat → Int32} (hv : dx_v a b d x) (hl : d < 24) (hw : dx_v a b c w) (hc : c < 65536) (hM : M' = dx_se M (Nat.add 3320 d) c) (hg : g = upd a20 x.toNatClampNeg w) : dx_R a b M' (f, a1, a2, a3, a4, a5, a6, a7, a8, a9, a10, a11, a12, a13, a14, a15, a16, a17, a18, a19, g, a21, a22) := by
  replace hM : M' = dx_se M (3320 + d) c := hM
  have hQ : dx_Q a b M f a1 a2 a3 a4 a5 a6 a7 a8 a9 a10 a11 a12 a13 a14 a15 a16 a17 a18 a19 a20 a21 a22 := hR
  obtain ⟨h0, h1, h2, h3, h4, h5, h6, h7, h8, h9, h10, h11, h12, h13, h14, h15, h16, h17, h18, h19, h20, h21, h22⟩ := hQ
  rw [hM, hg]
  have h0' : dx_v a b (dx_ce (dx_se M (3320 + d) c) 0) f := by
    rw [dx_cs_ne hc (Nat.ne_of_gt (dr_ge (by decide)))]
    exact h0
  show dx_Q a b (dx_se M (3320 + d) c) f a1 a2 a3 a4 a5 a6 a7 a8 a9 a10 a11 a12 a13 a14 a15 a16 a17 a18 a19 (upd a20 x.toNatClampNeg w) a21 a22
  exact ⟨h0', dr_ne h1 (Or.inr (dr_ge (by decide))) hc, dr_ne h2 (Or.inr (dr_ge (by decide))) hc, dr_ne h3 (Or.inr (dr_ge (by decide))) hc, dr_ne h4 (Or.inr (dr_ge (by decide))) hc, dr_ne h5 (Or.inr (dr_ge (by decide))) hc, dr_ne h6 (Or.inr (dr_ge (by decide))) hc, dr_ne h7 (Or.inr (dr_ge (by decide))) hc, dr_ne h8 (Or.inr (dr_ge (by decide))) hc, dr_ne h9 (Or.inr (dr_ge (by decide))) hc, dr_ne h10 (Or.inr (dr_ge (by decide))) hc, dr_ne h11 (Or.inr (dr_ge (by decide))) hc, dr_ne h12 (Or.inr (dr_ge (by decide))) hc, dr_ne h13 (Or.inr (dr_ge (by decide))) hc, dr_ne h14 (Or.inr (dr_ge (by decide))) hc, dr_ne h15 (Or.inr (dr_ge (by decide))) hc, dr_ne h16 (Or.inr (dr_ge (by decide))) hc, dr_ne h17 (Or.inr (dr_ge (by decide))) hc, dr_ne h18 (Or.inr (dr_ge (by decide))) hc, dr_ne h19 (Or.inr (dr_ge (by decide))) hc, dr_eq h20 hv hl (by decide) hw hc, dr_ne h21 (Or.inl (dr_lo hl (by decide))) hc, dr_ne h22 (Or.inl (dr_lo hl (by decide))) hc⟩
theorem dr_u21 {M : Nat} {f : Int32} {a1 a2 a3 a4 a5 a6 a7 a8 a9 a10 a11 a12 a13 a14 a15 a16 a17 a18 a19 a20 a21 a22 : Nat → Int32} (hR : dx_R a b M (f, a1, a2, a3, a4, a5, a6, a7, a8, a9, a10, a11, a12, a13, a14, a15, a16, a17, a18, a19, a20, a21, a22)) {d c M' : Nat} {x w : Int32} {g : Nat → Int32} (hv : dx_v a b d x) (hl : d < 80) (hw : dx_v a b c w) (hc : c < 65536) (hM : M' = dx_se M (Nat.add 3344 d) c) (hg : g = upd a21 x.toNatClampNeg w) : dx_R a b M' (f, a1, a2, a3, a4, a5, a6, a7, a8, a9, a10, a11, a12, a13, a14, a15, a16, a17, a18, a19, a20, g, a22) := by
  replace hM : M' = dx_se M (3344 + d) c := hM
  have hQ : dx_Q a b M f a1 a2 a3 a4 a5 a6 a7 a8 a9 a10 a11 a12 a13 a14 a15 a16 a17 a18 a19 a20 a21 a22 := hR
  obtain ⟨h0, h1, h2, h3, h4, h5, h6, h7, h8, h9, h10, h11, h12, h13, h14, h15, h16, h17, h18, h19, h20, h21, h22⟩ := hQ
  rw [hM, hg]
  have h0' : dx_v a b (dx_ce (dx_se M (3344 + d) c) 0) f := by
    rw [dx_cs_ne hc (Nat.ne_of_gt (dr_ge (by decide)))]
    exact h0
  show dx_Q a b (dx_se M (3344 + d) c) f a1 a2 a3 a4 a5 a6 a7 a8 a9 a10 a11 a12 a13 a14 a15 a16 a17 a18 a19 a20 (upd a21 x.toNatClampNeg w) a22
  exact ⟨h0', dr_ne h1 (Or.inr (dr_ge (by decide))) hc, dr_ne h2 (Or.inr (dr_ge (by decide))) hc, dr_ne h3 (Or.inr (dr_ge (by decide))) hc, dr_ne h4 (Or.inr (dr_ge (by decide))) hc, dr_ne h5 (Or.inr (dr_ge (by decide))) hc, dr_ne h6 (Or.inr (dr_ge (by decide))) hc, dr_ne h7 (Or.inr (dr_ge (by decide))) hc, dr_ne h8 (Or.inr (dr_ge (by decide))) hc, dr_ne h9 (Or.inr (dr_ge (by decide))) hc, dr_ne h10 (Or.inr (dr_ge (by decide))) hc, dr_ne h11 (Or.inr (dr_ge (by decide))) hc, dr_ne h12 (Or.inr (dr_ge (by decide))) hc, dr_ne h13 (Or.inr (dr_ge (by decide))) hc, dr_ne h14 (Or.inr (dr_ge (by decide))) hc, dr_ne h15 (Or.inr (dr_ge (by decide))) hc, dr_ne h16 (Or.inr (dr_ge (by decide))) hc, dr_ne h17 (Or.inr (dr_ge (by decide))) hc, dr_ne h18 (Or.inr (dr_ge (by decide))) hc, dr_ne h19 (Or.inr (dr_ge (by decide))) hc, dr_ne h20 (Or.inr (dr_ge (by decide))) hc, dr_eq h21 hv hl (by decide) hw hc, dr_ne h22 (Or.inl (dr_lo hl (by decide))) hc⟩
theorem dr_u22 {M : Nat} {f : Int32} {a1 a2 a3 a4 a5 a6 a7 a8 a9 a10 a11 a12 a13 a14 a15 a16 a17 a18 a19 a20 a21 a22 : Nat → Int32} (hR : dx_R a b M (f, a1, a2, a3, a4, a5, a6, a7, a8, a9, a10, a11, a12, a13, a14, a15, a16, a17, a18, a19, a20, a21, a22)) {d c M' : Nat} {x w : Int32} {g : Nat → Int32} (hv : dx_v a b d x) (hl : d < 80) (hw : dx_v a b c w) (hc : c < 65536) (hM : M' = dx_se M (Nat.add 3424 d) c) (hg : g = upd a22 x.toNatClampNeg w) : dx_R a b M' (f, a1, a2, a3, a4, a5, a6, a7, a8, a9, a10, a11, a12, a13, a14, a15, a16, a17, a18, a19, a20, a21, g) := by
  replace hM : M' = dx_se M (3424 + d) c := hM
  have hQ : dx_Q a b M f a1 a2 a3 a4 a5 a6 a7 a8 a9 a10 a11 a12 a13 a14 a15 a16 a17 a18 a19 a20 a21 a22 := hR
  obtain ⟨h0, h1, h2, h3, h4, h5, h6, h7, h8, h9, h10, h11, h12, h13, h14, h15, h16, h17, h18, h19, h20, h21, h22⟩ := hQ
  rw [hM, hg]
  have h0' : dx_v a b (dx_ce (dx_se M (3424 + d) c) 0) f := by
    rw [dx_cs_ne hc (Nat.ne_of_gt (dr_ge (by decide)))]
    exact h0
  show dx_Q a b (dx_se M (3424 + d) c) f a1 a2 a3 a4 a5 a6 a7 a8 a9 a10 a11 a12 a13 a14 a15 a16 a17 a18 a19 a20 a21 (upd a22 x.toNatClampNeg w)
  exact ⟨h0', dr_ne h1 (Or.inr (dr_ge (by decide))) hc, dr_ne h2 (Or.inr (dr_ge (by decide))) hc, dr_ne h3 (Or.inr (dr_ge (by decide))) hc, dr_ne h4 (Or.inr (dr_ge (by decide))) hc, dr_ne h5 (Or.inr (dr_ge (by decide))) hc, dr_ne h6 (Or.inr (dr_ge (by decide))) hc, dr_ne h7 (Or.inr (dr_ge (by decide))) hc, dr_ne h8 (Or.inr (dr_ge (by decide))) hc, dr_ne h9 (Or.inr (dr_ge (by decide))) hc, dr_ne h10 (Or.inr (dr_ge (by decide))) hc, dr_ne h11 (Or.inr (dr_ge (by decide))) hc, dr_ne h12 (Or.inr (dr_ge (by decide))) hc, dr_ne h13 (Or.inr (dr_ge (by decide))) hc, dr_ne h14 (Or.inr (dr_ge (by decide))) hc, dr_ne h15 (Or.inr (dr_ge (by decide))) hc, dr_ne h16 (Or.inr (dr_ge (by decide))) hc, dr_ne h17 (Or.inr (dr_ge (by decide))) hc, dr_ne h18 (Or.inr (dr_ge (by decide))) hc, dr_ne h19 (Or.inr (dr_ge (by decide))) hc, dr_ne h20 (Or.inr (dr_ge (by decide))) hc, dr_ne h21 (Or.inr (dr_ge (by decide))) hc, dr_eq h22 hv hl (by decide) hw hc⟩
end
end
section
noncomputable def dx_x_init_184_b (k : Nat → Bool) (ih : Nat → Nat → Bool) (c_x1 M : Nat) : Bool := dx_le 8 c_x1 (k M) (dx_in c_x1 8 (dx_st M (Nat.add 561 c_x1) 8192 (fun M2 => dx_fs (dx_add c_x1 1) (fun c_x1_92 => ih c_x1_92 M2))))
noncomputable def dx_x_init_184 (k : Nat → Bool) (n : Nat) : Nat → Nat → Bool := Nat.rec (motive := fun _ => Nat → Nat → Bool) (fun _ _ => false) (fun _ ih => dx_x_init_184_b k ih) n
theorem ds_x_init_184 {a b : Int32} (hab : dx_ab a b) {post : St2 → Prop} {mc ms kc ks : Nat} {f0_made : Int32} {k : Nat → Bool} (hk : ∀ (M : Nat) (u : St2), dx_R a b M u → k M = true → post u) : ∀ (n : Nat) {x1 : Int32} {am7 am15 am23 am31 am39 am47 am55 am63 am72 am81 am90 am98 am107 am114 am122 am130 am137 am145 am153 am161 am169 am177 : Nat → Int32} {c_x1 : Nat} {M : Nat}, dx_v a b c_x1 x1 → dx_R a b M (f0_made, am7, am15, am23, am31, am39, am47, am55, am63, am72, am81, am90, am98, am107, am114, am122, am130, am137, am145, am153, am161, am169, am177) → dx_x_init_184 k n c_x1 M = true → wX_init_184 post mc ms kc ks f0_made n x1 am7 am15 am23 am31 am39 am47 am55 am63 am72 am81 am90 am98 am107 am114 am122 am130 am137 am145 am153 am161 am169 am177 := by
  intro n
  induction n with
  | zero =>
    intro x1 am7 am15 am23 am31 am39 am47 am55 am63 am72 am81 am90 am98 am107 am114 am122 am130 am137 am145 am153 am161 am169 am177 c_x1 M v_x1 hR h
    exact absurd (show false = true from h) (by decide)
  | succ n ih =>
    intro x1 am7 am15 am23 am31 am39 am47 am55 am63 am72 am81 am90 am98 am107 am114 am122 am130 am137 am145 am153 am161 am169 am177 c_x1 M v_x1 hR h
    replace h : dx_x_init_184_b k (dx_x_init_184 k n) c_x1 M = true := h
    unfold dx_x_init_184_b at h
    refine dp_le hab (dv_n 8 (by decide)) v_x1 h (fun h => ?_) (fun h => ?_)
    · exact hk _ _ hR h
    · refine dp_in (by decide) v_x1 h (fun l1 h => ?_)
      intro am63_91 e_am63_91
      refine dp_st h (fun M2 m2 t2 h => ?_)
      have R2 := dr_u8 hR v_x1 l1 dv_m1 t2 m2 e_am63_91
      intro x1_92 e_x1_92
      refine dp_fs (dv_of e_x1_92 (dv_add v_x1 (dv_n 1 (by decide)))) h (fun c_x1_92 v_x1_92 h => ?_)
      exact ih v_x1_92 R2 h
noncomputable def dx_px_badStore (k : Nat → Bool) (c_p0 : Nat) (M : Nat) : Bool := dx_ls c_p0 0 (k 1) (dx_ls c_p0 3 (k 0) (k 1))
theorem ds_px_badStore {a b : Int32} (hab : dx_ab a b) {post : Int32 → Prop} {p0 : Int32} {u : St2} {k : Nat → Bool} {c_p0 : Nat} {M : Nat} (hk : ∀ (c : Nat) (r : Int32), dx_v a b c r → k c = true → post r) (v_p0 : dx_v a b c_p0 p0) (hR : dx_R a b M u) (h : dx_px_badStore k c_p0 M = true) : wpX_badStore post u p0 := by
  unfold dx_px_badStore at h
  obtain ⟨f0_made, a1, a2, a3, a4, a5, a6, a7, a8, a9, a10, a11, a12, a13, a14, a15, a16, a17, a18, a19, a20, a21, a22⟩ := u
  refine dp_ls hab v_p0 (dv_n 0 (by decide)) h (fun h => ?_) (fun h => ?_)
  · exact hk _ _ (dv_n 1 (by decide)) h
  · refine dp_ls hab v_p0 (dv_n 3 (by decide)) h (fun h => ?_) (fun h => ?_)
    · exact hk _ _ (dv_n 0 (by decide)) h
    · exact hk _ _ (dv_n 1 (by decide)) h
noncomputable def dx_px_badDocument (k : Nat → Bool) (c_p0 : Nat) (M : Nat) : Bool := dx_ls c_p0 0 (k 1) (dx_ls c_p0 8 (k 0) (k 1))
theorem ds_px_badDocument {a b : Int32} (hab : dx_ab a b) {post : Int32 → Prop} {p0 : Int32} {u : St2} {k : Nat → Bool} {c_p0 : Nat} {M : Nat} (hk : ∀ (c : Nat) (r : Int32), dx_v a b c r → k c = true → post r) (v_p0 : dx_v a b c_p0 p0) (hR : dx_R a b M u) (h : dx_px_badDocument k c_p0 M = true) : wpX_badDocument post u p0 := by
  unfold dx_px_badDocument at h
  obtain ⟨f0_made, a1, a2, a3, a4, a5, a6, a7, a8, a9, a10, a11, a12, a13, a14, a15, a16, a17, a18, a19, a20, a21, a22⟩ := u
  refine dp_ls hab v_p0 (dv_n 0 (by decide)) h (fun h => ?_) (fun h => ?_)
  · exact hk _ _ (dv_n 1 (by decide)) h
  · refine dp_ls hab v_p0 (dv_n 8 (by decide)) h (fun h => ?_) (fun h => ?_)
    · exact hk _ _ (dv_n 0 (by decide)) h
    · exact hk _ _ (dv_n 1 (by decide)) h
noncomputable def dx_px_leafAt (k : Nat → Bool) (c_p0 c_p1 c_p2 : Nat) (M : Nat) : Bool := dx_fs (dx_add (dx_add (dx_mul 640 c_p0) (dx_mul 80 c_p1)) c_p2) (fun c1 => dx_in c1 1920 (dx_fs (dx_ce M (Nat.add 1313 c1)) (fun c3 => k c3)))
theorem ds_px_leafAt {a b : Int32} (hab : dx_ab a b) {post : Int32 → Prop} {p0 p1 p2 : Int32} {u : St2} {k : Nat → Bool} {c_p0 c_p1 c_p2 : Nat} {M : Nat} (hk : ∀ (c : Nat) (r : Int32), dx_v a b c r → k c = true → post r) (v_p0 : dx_v a b c_p0 p0) (v_p1 : dx_v a b c_p1 p1) (v_p2 : dx_v a b c_p2 p2) (hR : dx_R a b M u) (h : dx_px_leafAt k c_p0 c_p1 c_p2 M = true) : wpX_leafAt post u p0 p1 p2 := by
  unfold dx_px_leafAt at h
  obtain ⟨f0_made, a1, a2, a3, a4, a5, a6, a7, a8, a9, a10, a11, a12, a13, a14, a15, a16, a17, a18, a19, a20, a21, a22⟩ := u
  refine dp_fs (dv_add (dv_add (dv_mul (dv_n 640 (by decide)) v_p0) (dv_mul (dv_n 80 (by decide)) v_p1)) v_p2) h (fun c1 v1 h => ?_)
  refine dp_in (by decide) v1 h (fun l2 h => ?_)
  refine dp_fs (dr_g13 hR v1 l2) h (fun c3 v3 h => ?_)
  exact hk _ _ v3 h
noncomputable def dx_x_findWinner_15_b (k : Nat → Bool) (c_x1 c_x2 c_x3 : Nat) (M : Nat) (ih : Nat → Bool) (c_x4 : Nat) : Bool := dx_le c_x3 c_x4 (dx_eq c_x3 0 (k 8192) (dx_px_leafAt (fun c_r_5 => k c_r_5) c_x1 c_x2 0 M)) (dx_px_leafAt (fun c_r_6 => dx_in c_r_6 80 (dx_fs (dx_ce M (Nat.add 241 c_r_6)) (fun c2 => dx_eq c2 0 (k c_r_6) (dx_fs (dx_add c_x4 1) (fun c_x4_9 => ih c_x4_9))))) c_x1 c_x2 c_x4 M)
noncomputable def dx_x_findWinner_15 (k : Nat → Bool) (c_x1 c_x2 c_x3 : Nat) (M : Nat) (n : Nat) : Nat → Bool := Nat.rec (motive := fun _ => Nat → Bool) (fun _ => false) (fun _ ih => dx_x_findWinner_15_b k c_x1 c_x2 c_x3 M ih) n
theorem ds_x_findWinner_15 {a b : Int32} (hab : dx_ab a b) {post : Int32 → Prop} {x1 x2 x3 : Int32} {f0_made : Int32} {a1 a2 a3 a4 a5 a6 a7 a8 a9 a10 a11 a12 a13 a14 a15 a16 a17 a18 a19 a20 a21 a22 : Nat → Int32} {k : Nat → Bool} {c_x1 c_x2 c_x3 : Nat} {M : Nat} (hk : ∀ (c : Nat) (r : Int32), dx_v a b c r → k c = true → post r) (v_x1 : dx_v a b c_x1 x1) (v_x2 : dx_v a b c_x2 x2) (v_x3 : dx_v a b c_x3 x3) (hR : dx_R a b M (f0_made, a1, a2, a3, a4, a5, a6, a7, a8, a9, a10, a11, a12, a13, a14, a15, a16, a17, a18, a19, a20, a21, a22)) : ∀ (n : Nat) {x4 : Int32} {c_x4 : Nat}, dx_v a b c_x4 x4 → dx_x_findWinner_15 k c_x1 c_x2 c_x3 M n c_x4 = true → wX_findWinner_15 post x1 x2 x3 f0_made a1 a2 a3 a4 a5 a6 a7 a8 a9 a10 a11 a12 a13 a14 a15 a16 a17 a18 a19 a20 a21 a22 n x4 := by
  intro n
  induction n with
  | zero =>
    intro x4 c_x4 v_x4 h
    exact absurd (show false = true from h) (by decide)
  | succ n ih =>
    intro x4 c_x4 v_x4 h
    replace h : dx_x_findWinner_15_b k c_x1 c_x2 c_x3 M (dx_x_findWinner_15 k c_x1 c_x2 c_x3 M n) c_x4 = true := h
    unfold dx_x_findWinner_15_b at h
    refine dp_le hab v_x3 v_x4 h (fun h => ?_) (fun h => ?_)
    · refine dp_eq hab v_x3 (dv_n 0 (by decide)) h (fun h => ?_) (fun h => ?_)
      · exact hk _ _ dv_m1 h
      · refine ds_px_leafAt hab ?_ v_x1 v_x2 (dv_n 0 (by decide)) hR h
        intro c_r_5 r_5 v_r_5 h
        exact hk _ _ v_r_5 h
    · refine ds_px_leafAt hab ?_ v_x1 v_x2 v_x4 hR h
      intro c_r_6 r_6 v_r_6 h
      refine dp_in (by decide) v_r_6 h (fun l1 h => ?_)
      refine dp_fs (dr_g4 hR v_r_6 l1) h (fun c2 v2 h => ?_)
      refine dp_eq hab v2 (dv_n 0 (by decide)) h (fun h => ?_) (fun h => ?_)
      · exact hk _ _ v_r_6 h
      · intro x4_9 e_x4_9
        refine dp_fs (dv_of e_x4_9 (dv_add v_x4 (dv_n 1 (by decide)))) h (fun c_x4_9 v_x4_9 h => ?_)
        exact ih v_x4_9 h
noncomputable def dx_px_findWinner (k : Nat → Bool) (c_p0 c_p1 : Nat) (M : Nat) : Bool := dx_fs (dx_add (dx_mul 8 c_p0) c_p1) (fun c1 => dx_in c1 24 (dx_fs (dx_ce M (Nat.add 1289 c1)) (fun c_x3_2 => dx_x_findWinner_15 k c_p0 c_p1 c_x3_2 M 100 0)))
theorem ds_px_findWinner {a b : Int32} (hab : dx_ab a b) {post : Int32 → Prop} {p0 p1 : Int32} {u : St2} {k : Nat → Bool} {c_p0 c_p1 : Nat} {M : Nat} (hk : ∀ (c : Nat) (r : Int32), dx_v a b c r → k c = true → post r) (v_p0 : dx_v a b c_p0 p0) (v_p1 : dx_v a b c_p1 p1) (hR : dx_R a b M u) (h : dx_px_findWinner k c_p0 c_p1 M = true) : wpX_findWinner post u p0 p1 := by
  unfold dx_px_findWinner at h
  obtain ⟨f0_made, a1, a2, a3, a4, a5, a6, a7, a8, a9, a10, a11, a12, a13, a14, a15, a16, a17, a18, a19, a20, a21, a22⟩ := u
  refine dp_fs (dv_add (dv_mul (dv_n 8 (by decide)) v_p0) v_p1) h (fun c1 v1 h => ?_)
  refine dp_in (by decide) v1 h (fun l2 h => ?_)
  intro x3_2 e_x3_2
  refine dp_fs (dv_of e_x3_2 (dr_g12 hR v1 l2)) h (fun c_x3_2 v_x3_2 h => ?_)
  refine ⟨100, ?_⟩
  exact ds_x_findWinner_15 hab hk v_p0 v_p1 v_x3_2 hR 100 (dv_n 0 (by decide)) h
noncomputable def dx_x_findRevision_25_b (k : Nat → Bool) (c_x3 c_x4 : Nat) (M : Nat) (ih : Nat → Nat → Bool) (c_x5 c_x6 : Nat) : Bool := dx_le 80 c_x6 (k c_x5) (dx_eq c_x5 8192 (k c_x5) (dx_in c_x5 80 (dx_fs (dx_ce M (Nat.add 161 c_x5)) (fun c2 => dx_eq c2 c_x3 (dx_fs (dx_ce M (Nat.add 241 c_x5)) (fun c3 => dx_eq c3 c_x4 (k c_x5) (dx_fs (dx_ce M (Nat.add 481 c_x5)) (fun c_x5_14 => dx_fs (dx_add c_x6 1) (fun c_x6_15 => ih c_x5_14 c_x6_15))))) (dx_fs (dx_ce M (Nat.add 481 c_x5)) (fun c_x5_9 => dx_fs (dx_add c_x6 1) (fun c_x6_10 => ih c_x5_9 c_x6_10)))))))
noncomputable def dx_x_findRevision_25 (k : Nat → Bool) (c_x3 c_x4 : Nat) (M : Nat) (n : Nat) : Nat → Nat → Bool := Nat.rec (motive := fun _ => Nat → Nat → Bool) (fun _ _ => false) (fun _ ih => dx_x_findRevision_25_b k c_x3 c_x4 M ih) n
theorem ds_x_findRevision_25 {a b : Int32} (hab : dx_ab a b) {post : Int32 → Prop} {x3 x4 : Int32} {f0_made : Int32} {a1 a2 a3 a4 a5 a6 a7 a8 a9 a10 a11 a12 a13 a14 a15 a16 a17 a18 a19 a20 a21 a22 : Nat → Int32} {k : Nat → Bool} {c_x3 c_x4 : Nat} {M : Nat} (hk : ∀ (c : Nat) (r : Int32), dx_v a b c r → k c = true → post r) (v_x3 : dx_v a b c_x3 x3) (v_x4 : dx_v a b c_x4 x4) (hR : dx_R a b M (f0_made, a1, a2, a3, a4, a5, a6, a7, a8, a9, a10, a11, a12, a13, a14, a15, a16, a17, a18, a19, a20, a21, a22)) : ∀ (n : Nat) {x5 x6 : Int32} {c_x5 c_x6 : Nat}, dx_v a b c_x5 x5 → dx_v a b c_x6 x6 → dx_x_findRevision_25 k c_x3 c_x4 M n c_x5 c_x6 = true → wX_findRevision_25 post x3 x4 f0_made a1 a2 a3 a4 a5 a6 a7 a8 a9 a10 a11 a12 a13 a14 a15 a16 a17 a18 a19 a20 a21 a22 n x5 x6 := by
  intro n
  induction n with
  | zero =>
    intro x5 x6 c_x5 c_x6 v_x5 v_x6 h
    exact absurd (show false = true from h) (by decide)
  | succ n ih =>
    intro x5 x6 c_x5 c_x6 v_x5 v_x6 h
    replace h : dx_x_findRevision_25_b k c_x3 c_x4 M (dx_x_findRevision_25 k c_x3 c_x4 M n) c_x5 c_x6 = true := h
    unfold dx_x_findRevision_25_b at h
    refine dp_le hab (dv_n 80 (by decide)) v_x6 h (fun h => ?_) (fun h => ?_)
    · exact hk _ _ v_x5 h
    · refine dp_eq hab v_x5 dv_m1 h (fun h => ?_) (fun h => ?_)
      · exact hk _ _ v_x5 h
      · refine dp_in (by decide) v_x5 h (fun l1 h => ?_)
        refine dp_fs (dr_g3 hR v_x5 l1) h (fun c2 v2 h => ?_)
        refine dp_eq hab v2 v_x3 h (fun h => ?_) (fun h => ?_)
        · refine ⟨dv_in v_x5 l1 (by decide), ?_⟩
          refine dp_fs (dr_g4 hR v_x5 l1) h (fun c3 v3 h => ?_)
          refine dp_eq hab v3 v_x4 h (fun h => ?_) (fun h => ?_)
          · exact hk _ _ v_x5 h
          · refine ⟨dv_in v_x5 l1 (by decide), ?_⟩
            intro x5_14 e_x5_14
            refine dp_fs (dv_of e_x5_14 (dr_g7 hR v_x5 l1)) h (fun c_x5_14 v_x5_14 h => ?_)
            intro x6_15 e_x6_15
            refine dp_fs (dv_of e_x6_15 (dv_add v_x6 (dv_n 1 (by decide)))) h (fun c_x6_15 v_x6_15 h => ?_)
            exact ih v_x5_14 v_x6_15 h
        · refine ⟨dv_in v_x5 l1 (by decide), ?_⟩
          intro x5_9 e_x5_9
          refine dp_fs (dv_of e_x5_9 (dr_g7 hR v_x5 l1)) h (fun c_x5_9 v_x5_9 h => ?_)
          intro x6_10 e_x6_10
          refine dp_fs (dv_of e_x6_10 (dv_add v_x6 (dv_n 1 (by decide)))) h (fun c_x6_10 v_x6_10 h => ?_)
          exact ih v_x5_9 v_x6_10 h
noncomputable def dx_px_findRevision (k : Nat → Bool) (c_p0 c_p1 c_p2 c_p3 : Nat) (M : Nat) : Bool := dx_eq c_p1 8192 (dx_in c_p0 8 (dx_fs (dx_ce M (Nat.add 561 c_p0)) (fun c_x5_17 => dx_x_findRevision_25 k c_p2 c_p3 M 100 c_x5_17 0))) (dx_in c_p1 80 (dx_fs (dx_ce M (Nat.add 401 c_p1)) (fun c_x5_3 => dx_x_findRevision_25 k c_p2 c_p3 M 100 c_x5_3 0)))
theorem ds_px_findRevision {a b : Int32} (hab : dx_ab a b) {post : Int32 → Prop} {p0 p1 p2 p3 : Int32} {u : St2} {k : Nat → Bool} {c_p0 c_p1 c_p2 c_p3 : Nat} {M : Nat} (hk : ∀ (c : Nat) (r : Int32), dx_v a b c r → k c = true → post r) (v_p0 : dx_v a b c_p0 p0) (v_p1 : dx_v a b c_p1 p1) (v_p2 : dx_v a b c_p2 p2) (v_p3 : dx_v a b c_p3 p3) (hR : dx_R a b M u) (h : dx_px_findRevision k c_p0 c_p1 c_p2 c_p3 M = true) : wpX_findRevision post u p0 p1 p2 p3 := by
  unfold dx_px_findRevision at h
  obtain ⟨f0_made, a1, a2, a3, a4, a5, a6, a7, a8, a9, a10, a11, a12, a13, a14, a15, a16, a17, a18, a19, a20, a21, a22⟩ := u
  refine dp_eq hab v_p1 dv_m1 h (fun h => ?_) (fun h => ?_)
  · refine dp_in (by decide) v_p0 h (fun l1 h => ?_)
    intro x5_17 e_x5_17
    refine dp_fs (dv_of e_x5_17 (dr_g8 hR v_p0 l1)) h (fun c_x5_17 v_x5_17 h => ?_)
    refine ⟨100, ?_⟩
    exact ds_x_findRevision_25 hab hk v_p2 v_p3 hR 100 v_x5_17 (dv_n 0 (by decide)) h
  · refine dp_in (by decide) v_p1 h (fun l2 h => ?_)
    intro x5_3 e_x5_3
    refine dp_fs (dv_of e_x5_3 (dr_g6 hR v_p1 l2)) h (fun c_x5_3 v_x5_3 h => ?_)
    refine ⟨100, ?_⟩
    exact ds_x_findRevision_25 hab hk v_p2 v_p3 hR 100 v_x5_3 (dv_n 0 (by decide)) h
noncomputable def dx_x_findPaths_15_b (k : Nat → Bool) (ih : Nat → Nat → Nat → Nat → Bool) (c_x3 c_x4 c_x5 M : Nat) : Bool := dx_ls c_x5 0 (k M) (dx_in c_x5 80 (dx_st M (Nat.add 3344 c_x5) c_x3 (fun M2 => dx_st M2 (Nat.add 3424 c_x5) c_x4 (fun M3 => dx_in c_x3 80 (dx_fs (dx_ce M3 (Nat.add 81 c_x3)) (fun c_x3_9 => dx_in c_x4 80 (dx_fs (dx_ce M3 (Nat.add 81 c_x4)) (fun c_x4_11 => dx_fs (dx_add c_x5 8192) (fun c_x5_12 => ih c_x3_9 c_x4_11 c_x5_12 M3)))))))))
noncomputable def dx_x_findPaths_15 (k : Nat → Bool) (n : Nat) : Nat → Nat → Nat → Nat → Bool := Nat.rec (motive := fun _ => Nat → Nat → Nat → Nat → Bool) (fun _ _ _ _ => false) (fun _ ih => dx_x_findPaths_15_b k ih) n
theorem ds_x_findPaths_15 {a b : Int32} (hab : dx_ab a b) {post : St2 → Prop} {f0_made : Int32} {k : Nat → Bool} (hk : ∀ (M : Nat) (u : St2), dx_R a b M u → k M = true → post u) : ∀ (n : Nat) {x3 x4 x5 : Int32} {a1 a2 a3 a4 a5 a6 a7 a8 a9 a10 a11 a12 a13 a14 a15 a16 a17 a18 a19 a20 a21 a22 : Nat → Int32} {c_x3 c_x4 c_x5 : Nat} {M : Nat}, dx_v a b c_x3 x3 → dx_v a b c_x4 x4 → dx_v a b c_x5 x5 → dx_R a b M (f0_made, a1, a2, a3, a4, a5, a6, a7, a8, a9, a10, a11, a12, a13, a14, a15, a16, a17, a18, a19, a20, a21, a22) → dx_x_findPaths_15 k n c_x3 c_x4 c_x5 M = true → wX_findPaths_15 post f0_made n x3 x4 x5 a1 a2 a3 a4 a5 a6 a7 a8 a9 a10 a11 a12 a13 a14 a15 a16 a17 a18 a19 a20 a21 a22 := by
  intro n
  induction n with
  | zero =>
    intro x3 x4 x5 a1 a2 a3 a4 a5 a6 a7 a8 a9 a10 a11 a12 a13 a14 a15 a16 a17 a18 a19 a20 a21 a22 c_x3 c_x4 c_x5 M v_x3 v_x4 v_x5 hR h
    exact absurd (show false = true from h) (by decide)
  | succ n ih =>
    intro x3 x4 x5 a1 a2 a3 a4 a5 a6 a7 a8 a9 a10 a11 a12 a13 a14 a15 a16 a17 a18 a19 a20 a21 a22 c_x3 c_x4 c_x5 M v_x3 v_x4 v_x5 hR h
    replace h : dx_x_findPaths_15_b k (dx_x_findPaths_15 k n) c_x3 c_x4 c_x5 M = true := h
    unfold dx_x_findPaths_15_b at h
    refine dp_ls hab v_x5 (dv_n 0 (by decide)) h (fun h => ?_) (fun h => ?_)
    · exact hk _ _ hR h
    · refine dp_in (by decide) v_x5 h (fun l1 h => ?_)
      intro a21_5 e_a21_5
      refine dp_st h (fun M2 m2 t2 h => ?_)
      have R2 := dr_u21 hR v_x5 l1 v_x3 t2 m2 e_a21_5
      refine ⟨dv_in v_x5 l1 (by decide), ?_⟩
      intro a22_7 e_a22_7
      refine dp_st h (fun M3 m3 t3 h => ?_)
      have R3 := dr_u22 R2 v_x5 l1 v_x4 t3 m3 e_a22_7
      refine dp_in (by decide) v_x3 h (fun l4 h => ?_)
      intro x3_9 e_x3_9
      refine dp_fs (dv_of e_x3_9 (dr_g2 R3 v_x3 l4)) h (fun c_x3_9 v_x3_9 h => ?_)
      refine dp_in (by decide) v_x4 h (fun l5 h => ?_)
      intro x4_11 e_x4_11
      refine dp_fs (dv_of e_x4_11 (dr_g2 R3 v_x4 l5)) h (fun c_x4_11 v_x4_11 h => ?_)
      intro x5_12 e_x5_12
      refine dp_fs (dv_of e_x5_12 (dv_add v_x5 dv_m1)) h (fun c_x5_12 v_x5_12 h => ?_)
      exact ih v_x3_9 v_x4_11 v_x5_12 R3 h
noncomputable def dx_px_findPaths (k : Nat → Bool) (c_p0 c_p1 : Nat) (M : Nat) : Bool := dx_in c_p0 80 (dx_fs (dx_sub (dx_ce M (Nat.add 321 c_p0)) 1) (fun c_x5_2 => dx_x_findPaths_15 k 100 c_p0 c_p1 c_x5_2 M))
theorem ds_px_findPaths {a b : Int32} (hab : dx_ab a b) {post : St2 → Prop} {p0 p1 : Int32} {u : St2} {k : Nat → Bool} {c_p0 c_p1 : Nat} {M : Nat} (hk : ∀ (M : Nat) (u : St2), dx_R a b M u → k M = true → post u) (v_p0 : dx_v a b c_p0 p0) (v_p1 : dx_v a b c_p1 p1) (hR : dx_R a b M u) (h : dx_px_findPaths k c_p0 c_p1 M = true) : wpX_findPaths post u p0 p1 := by
  unfold dx_px_findPaths at h
  obtain ⟨f0_made, a1, a2, a3, a4, a5, a6, a7, a8, a9, a10, a11, a12, a13, a14, a15, a16, a17, a18, a19, a20, a21, a22⟩ := u
  refine dp_in (by decide) v_p0 h (fun l1 h => ?_)
  intro x5_2 e_x5_2
  refine dp_fs (dv_of e_x5_2 (dv_sub (dr_g5 hR v_p0 l1) (dv_n 1 (by decide)))) h (fun c_x5_2 v_x5_2 h => ?_)
  refine ⟨100, ?_⟩
  exact ds_x_findPaths_15 hab hk 100 v_p0 v_p1 v_x5_2 hR h
noncomputable def dx_x_comesFirst_90 (k : Nat → Nat → Bool) (c_x3 : Nat) (M : Nat) : Bool := dx_in c_x3 80 (dx_fs (dx_ce M (Nat.add 3344 c_x3)) (fun c_x4_74 => dx_fs (dx_ce M (Nat.add 3424 c_x3)) (fun c_x5_76 => dx_in c_x4_74 80 (dx_in c_x5_76 80 (dx_fs (dx_ce M (Nat.add 161 c_x4_74)) (fun c4 => dx_fs (dx_ce M (Nat.add 161 c_x5_76)) (fun c5 => dx_eq c4 c5 (dx_fs (dx_ce M (Nat.add 241 c_x4_74)) (fun c6 => dx_eq c6 0 (k 0 M) (dx_fs (dx_ce M (Nat.add 241 c_x5_76)) (fun c7 => dx_eq c7 0 (k 1 M) (k 0 M))))) (dx_le c4 c5 (k 0 M) (k 1 M)))))))))
theorem ds_x_comesFirst_90 {a b : Int32} (hab : dx_ab a b) {post : Int32 → St2 → Prop} {x3 : Int32} {f0_made : Int32} {am391 am392 am393 am394 am395 am396 am397 am398 am399 am3910 am3911 am3912 am3913 am3914 am3915 am3916 am3917 am3918 am3919 am3920 am3921 am3922 : Nat → Int32} {k : Nat → Nat → Bool} {c_x3 : Nat} {M : Nat} (hk : ∀ (c : Nat) (r : Int32) (M : Nat) (u : St2), dx_v a b c r → dx_R a b M u → k c M = true → post r u) (v_x3 : dx_v a b c_x3 x3) (hR : dx_R a b M (f0_made, am391, am392, am393, am394, am395, am396, am397, am398, am399, am3910, am3911, am3912, am3913, am3914, am3915, am3916, am3917, am3918, am3919, am3920, am3921, am3922)) (h : dx_x_comesFirst_90 k c_x3 M = true) : wX_comesFirst_90 post x3 f0_made am391 am392 am393 am394 am395 am396 am397 am398 am399 am3910 am3911 am3912 am3913 am3914 am3915 am3916 am3917 am3918 am3919 am3920 am3921 am3922 := by
  unfold dx_x_comesFirst_90 at h
  refine dp_in (by decide) v_x3 h (fun l1 h => ?_)
  intro x4_74 e_x4_74
  refine dp_fs (dv_of e_x4_74 (dr_g21 hR v_x3 l1)) h (fun c_x4_74 v_x4_74 h => ?_)
  refine ⟨dv_in v_x3 l1 (by decide), ?_⟩
  intro x5_76 e_x5_76
  refine dp_fs (dv_of e_x5_76 (dr_g22 hR v_x3 l1)) h (fun c_x5_76 v_x5_76 h => ?_)
  refine dp_in (by decide) v_x4_74 h (fun l2 h => ?_)
  refine dp_in (by decide) v_x5_76 h (fun l3 h => ?_)
  refine dp_fs (dr_g3 hR v_x4_74 l2) h (fun c4 v4 h => ?_)
  refine dp_fs (dr_g3 hR v_x5_76 l3) h (fun c5 v5 h => ?_)
  refine dp_eq hab v4 v5 h (fun h => ?_) (fun h => ?_)
  · refine ⟨dv_in v_x4_74 l2 (by decide), ?_⟩
    refine dp_fs (dr_g4 hR v_x4_74 l2) h (fun c6 v6 h => ?_)
    refine dp_eq hab v6 (dv_n 0 (by decide)) h (fun h => ?_) (fun h => ?_)
    · exact hk _ _ _ _ (dv_n 0 (by decide)) hR h
    · refine ⟨dv_in v_x5_76 l3 (by decide), ?_⟩
      refine dp_fs (dr_g4 hR v_x5_76 l3) h (fun c7 v7 h => ?_)
      refine dp_eq hab v7 (dv_n 0 (by decide)) h (fun h => ?_) (fun h => ?_)
      · exact hk _ _ _ _ (dv_n 1 (by decide)) hR h
      · exact hk _ _ _ _ (dv_n 0 (by decide)) hR h
  · refine ⟨dv_in v_x4_74 l2 (by decide), ?_⟩
    refine ⟨dv_in v_x5_76 l3 (by decide), ?_⟩
    refine dp_le hab v4 v5 h (fun h => ?_) (fun h => ?_)
    · exact hk _ _ _ _ (dv_n 0 (by decide)) hR h
    · exact hk _ _ _ _ (dv_n 1 (by decide)) hR h
noncomputable def dx_x_comesFirst_47_b (k : Nat → Nat → Bool) (c_x1 : Nat) (M : Nat) (ih : Nat → Nat → Bool) (c_x3 c_x4 : Nat) : Bool := dx_le 80 c_x4 (dx_x_comesFirst_90 k c_x3 M) (dx_in c_x1 80 (dx_fs (dx_ce M (Nat.add 321 c_x1)) (fun c2 => dx_fs (dx_add c_x3 1) (fun c3 => dx_le c2 c3 (dx_x_comesFirst_90 k c_x3 M) (dx_in c_x3 80 (dx_fs (dx_ce M (Nat.add 3344 c_x3)) (fun c5 => dx_fs (dx_ce M (Nat.add 3424 c_x3)) (fun c6 => dx_eq c5 c6 (dx_fs (dx_add c_x4 1) (fun c_x4_93 => ih c3 c_x4_93)) (dx_x_comesFirst_90 k c_x3 M)))))))))
noncomputable def dx_x_comesFirst_47 (k : Nat → Nat → Bool) (c_x1 : Nat) (M : Nat) (n : Nat) : Nat → Nat → Bool := Nat.rec (motive := fun _ => Nat → Nat → Bool) (fun _ _ => false) (fun _ ih => dx_x_comesFirst_47_b k c_x1 M ih) n
theorem ds_x_comesFirst_47 {a b : Int32} (hab : dx_ab a b) {post : Int32 → St2 → Prop} {x1 : Int32} {f0_made : Int32} {am391 am392 am393 am394 am395 am396 am397 am398 am399 am3910 am3911 am3912 am3913 am3914 am3915 am3916 am3917 am3918 am3919 am3920 am3921 am3922 : Nat → Int32} {k : Nat → Nat → Bool} {c_x1 : Nat} {M : Nat} (hk : ∀ (c : Nat) (r : Int32) (M : Nat) (u : St2), dx_v a b c r → dx_R a b M u → k c M = true → post r u) (v_x1 : dx_v a b c_x1 x1) (hR : dx_R a b M (f0_made, am391, am392, am393, am394, am395, am396, am397, am398, am399, am3910, am3911, am3912, am3913, am3914, am3915, am3916, am3917, am3918, am3919, am3920, am3921, am3922)) : ∀ (n : Nat) {x3 x4 : Int32} {c_x3 c_x4 : Nat}, dx_v a b c_x3 x3 → dx_v a b c_x4 x4 → dx_x_comesFirst_47 k c_x1 M n c_x3 c_x4 = true → wX_comesFirst_47 post x1 f0_made am391 am392 am393 am394 am395 am396 am397 am398 am399 am3910 am3911 am3912 am3913 am3914 am3915 am3916 am3917 am3918 am3919 am3920 am3921 am3922 n x3 x4 := by
  intro n
  induction n with
  | zero =>
    intro x3 x4 c_x3 c_x4 v_x3 v_x4 h
    exact absurd (show false = true from h) (by decide)
  | succ n ih =>
    intro x3 x4 c_x3 c_x4 v_x3 v_x4 h
    replace h : dx_x_comesFirst_47_b k c_x1 M (dx_x_comesFirst_47 k c_x1 M n) c_x3 c_x4 = true := h
    unfold dx_x_comesFirst_47_b at h
    refine dp_le hab (dv_n 80 (by decide)) v_x4 h (fun h => ?_) (fun h => ?_)
    · exact ds_x_comesFirst_90 hab hk v_x3 hR h
    · refine dp_in (by decide) v_x1 h (fun l1 h => ?_)
      refine dp_fs (dr_g5 hR v_x1 l1) h (fun c2 v2 h => ?_)
      refine dp_fs (dv_add v_x3 (dv_n 1 (by decide))) h (fun c3 v3 h => ?_)
      refine dp_le hab v2 v3 h (fun h => ?_) (fun h => ?_)
      · exact ds_x_comesFirst_90 hab hk v_x3 hR h
      · refine dp_in (by decide) v_x3 h (fun l4 h => ?_)
        refine ⟨dv_in v_x3 l4 (by decide), ?_⟩
        refine dp_fs (dr_g21 hR v_x3 l4) h (fun c5 v5 h => ?_)
        refine dp_fs (dr_g22 hR v_x3 l4) h (fun c6 v6 h => ?_)
        refine dp_eq hab v5 v6 h (fun h => ?_) (fun h => ?_)
        · intro x3_92 e_x3_92
          intro x4_93 e_x4_93
          refine dp_fs (dv_of e_x4_93 (dv_add v_x4 (dv_n 1 (by decide)))) h (fun c_x4_93 v_x4_93 h => ?_)
          exact ih (dv_of e_x3_92 v3) v_x4_93 h
        · exact ds_x_comesFirst_90 hab hk v_x3 hR h
noncomputable def dx_px_comesFirst (k : Nat → Nat → Bool) (c_p0 c_p1 : Nat) (M : Nat) : Bool := dx_in c_p0 80 (dx_in c_p1 80 (dx_fs (dx_ce M (Nat.add 321 c_p0)) (fun c3 => dx_fs (dx_ce M (Nat.add 321 c_p1)) (fun c4 => dx_eq c3 c4 (dx_px_findPaths (fun M5 => dx_x_comesFirst_47 k c_p0 M5 100 0 0) c_p0 c_p1 M) (dx_le c3 c4 (k 0 M) (k 1 M))))))
theorem ds_px_comesFirst {a b : Int32} (hab : dx_ab a b) {post : Int32 → St2 → Prop} {p0 p1 : Int32} {u : St2} {k : Nat → Nat → Bool} {c_p0 c_p1 : Nat} {M : Nat} (hk : ∀ (c : Nat) (r : Int32) (M : Nat) (u : St2), dx_v a b c r → dx_R a b M u → k c M = true → post r u) (v_p0 : dx_v a b c_p0 p0) (v_p1 : dx_v a b c_p1 p1) (hR : dx_R a b M u) (h : dx_px_comesFirst k c_p0 c_p1 M = true) : wpX_comesFirst post u p0 p1 := by
  unfold dx_px_comesFirst at h
  obtain ⟨f0_made, a1, a2, a3, a4, a5, a6, a7, a8, a9, a10, a11, a12, a13, a14, a15, a16, a17, a18, a19, a20, a21, a22⟩ := u
  refine dp_in (by decide) v_p0 h (fun l1 h => ?_)
  refine dp_in (by decide) v_p1 h (fun l2 h => ?_)
  refine dp_fs (dr_g5 hR v_p0 l1) h (fun c3 v3 h => ?_)
  refine dp_fs (dr_g5 hR v_p1 l2) h (fun c4 v4 h => ?_)
  refine dp_eq hab v3 v4 h (fun h => ?_) (fun h => ?_)
  · refine ds_px_findPaths hab ?_ v_p0 v_p1 hR h
    intro M5 u5 R5 h
    obtain ⟨f0_made_5, am391_8, am392_11, am393_14, am394_17, am395_20, am396_23, am397_26, am398_29, am399_32, am3910_35, am3911_38, am3912_41, am3913_44, am3914_47, am3915_50, am3916_53, am3917_56, am3918_59, am3919_62, am3920_65, am3921_68, am3922_71⟩ := u5
    refine ⟨100, ?_⟩
    exact ds_x_comesFirst_47 hab hk v_p0 R5 100 (dv_n 0 (by decide)) (dv_n 0 (by decide)) h
  · refine ⟨dv_in v_p0 l1 (by decide), ?_⟩
    refine ⟨dv_in v_p1 l2 (by decide), ?_⟩
    refine dp_le hab v3 v4 h (fun h => ?_) (fun h => ?_)
    · exact hk _ _ _ _ (dv_n 0 (by decide)) hR h
    · exact hk _ _ _ _ (dv_n 1 (by decide)) hR h
noncomputable def dx_x_putLeaf_108_b (k : Nat → Bool) (c_x2 c_x4 c_x5 c_x6 : Nat) (ih : Nat → Nat → Bool) (c_x8 M : Nat) : Bool := dx_le c_x8 c_x6 (dx_fs (dx_add c_x5 c_x6) (fun c1 => dx_in c1 1920 (dx_st M (Nat.add 1313 c1) c_x2 (fun M3 => dx_in c_x4 24 (dx_fs (dx_add (dx_ce M3 (Nat.add 1289 c_x4)) 1) (fun c5 => dx_st M3 (Nat.add 1289 c_x4) c5 (fun M6 => k M6))))))) (dx_fs (dx_sub (dx_add c_x5 c_x8) 1) (fun c7 => dx_in c7 1920 (dx_fs (dx_add c_x5 c_x8) (fun c9 => dx_in c9 1920 (dx_fs (dx_ce M (Nat.add 1313 c7)) (fun c11 => dx_st M (Nat.add 1313 c9) c11 (fun M12 => dx_fs (dx_add c_x8 8192) (fun c_x8_17 => ih c_x8_17 M12))))))))
noncomputable def dx_x_putLeaf_108 (k : Nat → Bool) (c_x2 c_x4 c_x5 c_x6 : Nat) (n : Nat) : Nat → Nat → Bool := Nat.rec (motive := fun _ => Nat → Nat → Bool) (fun _ _ => false) (fun _ ih => dx_x_putLeaf_108_b k c_x2 c_x4 c_x5 c_x6 ih) n
theorem ds_x_putLeaf_108 {a b : Int32} (hab : dx_ab a b) {post : St2 → Prop} {x2 x4 x5 x6 : Int32} {f0_made : Int32} {k : Nat → Bool} {c_x2 c_x4 c_x5 c_x6 : Nat} (hk : ∀ (M : Nat) (u : St2), dx_R a b M u → k M = true → post u) (v_x2 : dx_v a b c_x2 x2) (v_x4 : dx_v a b c_x4 x4) (v_x5 : dx_v a b c_x5 x5) (v_x6 : dx_v a b c_x6 x6) : ∀ (n : Nat) {x8 : Int32} {a1 a2 a3 a4 a5 a6 a7 a8 a9 a10 a11 a12 a13 a14 a15 a16 a17 a18 a19 a20 a21 a22 : Nat → Int32} {c_x8 : Nat} {M : Nat}, dx_v a b c_x8 x8 → dx_R a b M (f0_made, a1, a2, a3, a4, a5, a6, a7, a8, a9, a10, a11, a12, a13, a14, a15, a16, a17, a18, a19, a20, a21, a22) → dx_x_putLeaf_108 k c_x2 c_x4 c_x5 c_x6 n c_x8 M = true → wX_putLeaf_108 post x2 x4 x5 x6 f0_made n x8 a1 a2 a3 a4 a5 a6 a7 a8 a9 a10 a11 a12 a13 a14 a15 a16 a17 a18 a19 a20 a21 a22 := by
  intro n
  induction n with
  | zero =>
    intro x8 a1 a2 a3 a4 a5 a6 a7 a8 a9 a10 a11 a12 a13 a14 a15 a16 a17 a18 a19 a20 a21 a22 c_x8 M v_x8 hR h
    exact absurd (show false = true from h) (by decide)
  | succ n ih =>
    intro x8 a1 a2 a3 a4 a5 a6 a7 a8 a9 a10 a11 a12 a13 a14 a15 a16 a17 a18 a19 a20 a21 a22 c_x8 M v_x8 hR h
    replace h : dx_x_putLeaf_108_b k c_x2 c_x4 c_x5 c_x6 (dx_x_putLeaf_108 k c_x2 c_x4 c_x5 c_x6 n) c_x8 M = true := h
    unfold dx_x_putLeaf_108_b at h
    refine dp_le hab v_x8 v_x6 h (fun h => ?_) (fun h => ?_)
    · refine dp_fs (dv_add v_x5 v_x6) h (fun c1 v1 h => ?_)
      refine dp_in (by decide) v1 h (fun l2 h => ?_)
      intro a13_10 e_a13_10
      refine dp_st h (fun M3 m3 t3 h => ?_)
      have R3 := dr_u13 hR v1 l2 v_x2 t3 m3 e_a13_10
      refine dp_in (by decide) v_x4 h (fun l4 h => ?_)
      refine ⟨dv_in v_x4 l4 (by decide), ?_⟩
      refine dp_fs (dv_add (dr_g12 R3 v_x4 l4) (dv_n 1 (by decide))) h (fun c5 v5 h => ?_)
      intro a12_13 e_a12_13
      refine dp_st h (fun M6 m6 t6 h => ?_)
      have R6 := dr_u12 R3 v_x4 l4 v5 t6 m6 e_a12_13
      exact hk _ _ R6 h
    · refine dp_fs (dv_sub (dv_add v_x5 v_x8) (dv_n 1 (by decide))) h (fun c7 v7 h => ?_)
      refine dp_in (by decide) v7 h (fun l8 h => ?_)
      refine dp_fs (dv_add v_x5 v_x8) h (fun c9 v9 h => ?_)
      refine dp_in (by decide) v9 h (fun l10 h => ?_)
      refine dp_fs (dr_g13 hR v7 l8) h (fun c11 v11 h => ?_)
      intro a13_16 e_a13_16
      refine dp_st h (fun M12 m12 t12 h => ?_)
      have R12 := dr_u13 hR v9 l10 v11 t12 m12 e_a13_16
      intro x8_17 e_x8_17
      refine dp_fs (dv_of e_x8_17 (dv_add v_x8 dv_m1)) h (fun c_x8_17 v_x8_17 h => ?_)
      exact ih v_x8_17 R12 h
noncomputable def dx_x_putLeaf_36_b (k : Nat → Bool) (c_x2 c_x4 c_x5 : Nat) (ih : Nat → Nat → Nat → Nat → Bool) (c_x6 c_x7 c_x8 M : Nat) : Bool := dx_le 80 c_x8 (dx_in c_x4 24 (dx_fs (dx_ce M (Nat.add 1289 c_x4)) (fun c_x8_7 => dx_x_putLeaf_108 k c_x2 c_x4 c_x5 c_x6 100 c_x8_7 M))) (dx_eq c_x7 0 (dx_in c_x4 24 (dx_fs (dx_ce M (Nat.add 1289 c_x4)) (fun c_x8_20 => dx_x_putLeaf_108 k c_x2 c_x4 c_x5 c_x6 100 c_x8_20 M))) (dx_in c_x4 24 (dx_fs (dx_ce M (Nat.add 1289 c_x4)) (fun c4 => dx_le c4 c_x6 (dx_x_putLeaf_108 k c_x2 c_x4 c_x5 c_x6 100 c4 M) (dx_fs (dx_add c_x5 c_x6) (fun c5 => dx_in c5 1920 (dx_fs (dx_ce M (Nat.add 1313 c5)) (fun c7 => dx_px_comesFirst (fun c_r_26 M8 => dx_eq c_r_26 0 (dx_fs (dx_add c_x8 1) (fun c_x8_95 => ih c_x6 c_r_26 c_x8_95 M8)) (dx_fs (dx_add c_x6 1) (fun c_x6_96 => dx_fs (dx_add c_x8 1) (fun c_x8_97 => ih c_x6_96 c_r_26 c_x8_97 M8)))) c7 c_x2 M))))))))
noncomputable def dx_x_putLeaf_36 (k : Nat → Bool) (c_x2 c_x4 c_x5 : Nat) (n : Nat) : Nat → Nat → Nat → Nat → Bool := Nat.rec (motive := fun _ => Nat → Nat → Nat → Nat → Bool) (fun _ _ _ _ => false) (fun _ ih => dx_x_putLeaf_36_b k c_x2 c_x4 c_x5 ih) n
theorem ds_x_putLeaf_36 {a b : Int32} (hab : dx_ab a b) {post : St2 → Prop} {x2 x4 x5 : Int32} {k : Nat → Bool} {c_x2 c_x4 c_x5 : Nat} (hk : ∀ (M : Nat) (u : St2), dx_R a b M u → k M = true → post u) (v_x2 : dx_v a b c_x2 x2) (v_x4 : dx_v a b c_x4 x4) (v_x5 : dx_v a b c_x5 x5) : ∀ (n : Nat) {x6 x7 x8 : Int32} {f0_made : Int32} {a1 a2 a3 a4 a5 a6 a7 a8 a9 a10 a11 a12 a13 a14 a15 a16 a17 a18 a19 a20 a21 a22 : Nat → Int32} {c_x6 c_x7 c_x8 : Nat} {M : Nat}, dx_v a b c_x6 x6 → dx_v a b c_x7 x7 → dx_v a b c_x8 x8 → dx_R a b M (f0_made, a1, a2, a3, a4, a5, a6, a7, a8, a9, a10, a11, a12, a13, a14, a15, a16, a17, a18, a19, a20, a21, a22) → dx_x_putLeaf_36 k c_x2 c_x4 c_x5 n c_x6 c_x7 c_x8 M = true → wX_putLeaf_36 post x2 x4 x5 n x6 x7 x8 f0_made a1 a2 a3 a4 a5 a6 a7 a8 a9 a10 a11 a12 a13 a14 a15 a16 a17 a18 a19 a20 a21 a22 := by
  intro n
  induction n with
  | zero =>
    intro x6 x7 x8 f0_made a1 a2 a3 a4 a5 a6 a7 a8 a9 a10 a11 a12 a13 a14 a15 a16 a17 a18 a19 a20 a21 a22 c_x6 c_x7 c_x8 M v_x6 v_x7 v_x8 hR h
    exact absurd (show false = true from h) (by decide)
  | succ n ih =>
    intro x6 x7 x8 f0_made a1 a2 a3 a4 a5 a6 a7 a8 a9 a10 a11 a12 a13 a14 a15 a16 a17 a18 a19 a20 a21 a22 c_x6 c_x7 c_x8 M v_x6 v_x7 v_x8 hR h
    replace h : dx_x_putLeaf_36_b k c_x2 c_x4 c_x5 (dx_x_putLeaf_36 k c_x2 c_x4 c_x5 n) c_x6 c_x7 c_x8 M = true := h
    unfold dx_x_putLeaf_36_b at h
    refine dp_le hab (dv_n 80 (by decide)) v_x8 h (fun h => ?_) (fun h => ?_)
    · refine dp_in (by decide) v_x4 h (fun l1 h => ?_)
      intro x8_7 e_x8_7
      refine dp_fs (dv_of e_x8_7 (dr_g12 hR v_x4 l1)) h (fun c_x8_7 v_x8_7 h => ?_)
      refine ⟨100, ?_⟩
      exact ds_x_putLeaf_108 hab hk v_x2 v_x4 v_x5 v_x6 100 v_x8_7 hR h
    · refine dp_eq hab v_x7 (dv_n 0 (by decide)) h (fun h => ?_) (fun h => ?_)
      · refine dp_in (by decide) v_x4 h (fun l2 h => ?_)
        intro x8_20 e_x8_20
        refine dp_fs (dv_of e_x8_20 (dr_g12 hR v_x4 l2)) h (fun c_x8_20 v_x8_20 h => ?_)
        refine ⟨100, ?_⟩
        exact ds_x_putLeaf_108 hab hk v_x2 v_x4 v_x5 v_x6 100 v_x8_20 hR h
      · refine dp_in (by decide) v_x4 h (fun l3 h => ?_)
        refine dp_fs (dr_g12 hR v_x4 l3) h (fun c4 v4 h => ?_)
        refine dp_le hab v4 v_x6 h (fun h => ?_) (fun h => ?_)
        · refine ⟨dv_in v_x4 l3 (by decide), ?_⟩
          intro x8_24 e_x8_24
          refine ⟨100, ?_⟩
          exact ds_x_putLeaf_108 hab hk v_x2 v_x4 v_x5 v_x6 100 (dv_of e_x8_24 v4) hR h
        · refine dp_fs (dv_add v_x5 v_x6) h (fun c5 v5 h => ?_)
          refine dp_in (by decide) v5 h (fun l6 h => ?_)
          refine dp_fs (dr_g13 hR v5 l6) h (fun c7 v7 h => ?_)
          refine ds_px_comesFirst hab ?_ v7 v_x2 hR h
          intro c_r_26 r_26 M8 u8 v_r_26 R8 h
          obtain ⟨f0_made_27, am721_30, am722_33, am723_36, am724_39, am725_42, am726_45, am727_48, am728_51, am729_54, am7210_57, am7211_60, am7212_63, am7213_66, am7214_69, am7215_72, am7216_75, am7217_78, am7218_81, am7219_84, am7220_87, am7221_90, am7222_93⟩ := u8
          refine dp_eq hab v_r_26 (dv_n 0 (by decide)) h (fun h => ?_) (fun h => ?_)
          · intro x8_95 e_x8_95
            refine dp_fs (dv_of e_x8_95 (dv_add v_x8 (dv_n 1 (by decide)))) h (fun c_x8_95 v_x8_95 h => ?_)
            exact ih v_x6 v_r_26 v_x8_95 R8 h
          · intro x6_96 e_x6_96
            refine dp_fs (dv_of e_x6_96 (dv_add v_x6 (dv_n 1 (by decide)))) h (fun c_x6_96 v_x6_96 h => ?_)
            intro x8_97 e_x8_97
            refine dp_fs (dv_of e_x8_97 (dv_add v_x8 (dv_n 1 (by decide)))) h (fun c_x8_97 v_x8_97 h => ?_)
            exact ih v_x6_96 v_r_26 v_x8_97 R8 h
noncomputable def dx_px_putLeaf (k : Nat → Bool) (c_p0 c_p1 : Nat) (M : Nat) : Bool := dx_in c_p1 80 (dx_fs (dx_ce M (Nat.add 1 c_p1)) (fun c_x3_2 => dx_fs (dx_add (dx_mul 8 c_p0) c_x3_2) (fun c_x4_3 => dx_fs (dx_add (dx_mul 640 c_p0) (dx_mul 80 c_x3_2)) (fun c_x5_4 => dx_x_putLeaf_36 k c_p1 c_x4_3 c_x5_4 100 0 1 0 M))))
theorem ds_px_putLeaf {a b : Int32} (hab : dx_ab a b) {post : St2 → Prop} {p0 p1 : Int32} {u : St2} {k : Nat → Bool} {c_p0 c_p1 : Nat} {M : Nat} (hk : ∀ (M : Nat) (u : St2), dx_R a b M u → k M = true → post u) (v_p0 : dx_v a b c_p0 p0) (v_p1 : dx_v a b c_p1 p1) (hR : dx_R a b M u) (h : dx_px_putLeaf k c_p0 c_p1 M = true) : wpX_putLeaf post u p0 p1 := by
  unfold dx_px_putLeaf at h
  obtain ⟨f0_made, a1, a2, a3, a4, a5, a6, a7, a8, a9, a10, a11, a12, a13, a14, a15, a16, a17, a18, a19, a20, a21, a22⟩ := u
  refine dp_in (by decide) v_p1 h (fun l1 h => ?_)
  intro x3_2 e_x3_2
  refine dp_fs (dv_of e_x3_2 (dr_g1 hR v_p1 l1)) h (fun c_x3_2 v_x3_2 h => ?_)
  intro x4_3 e_x4_3
  refine dp_fs (dv_of e_x4_3 (dv_add (dv_mul (dv_n 8 (by decide)) v_p0) v_x3_2)) h (fun c_x4_3 v_x4_3 h => ?_)
  intro x5_4 e_x5_4
  refine dp_fs (dv_of e_x5_4 (dv_add (dv_mul (dv_n 640 (by decide)) v_p0) (dv_mul (dv_n 80 (by decide)) v_x3_2))) h (fun c_x5_4 v_x5_4 h => ?_)
  refine ⟨100, ?_⟩
  exact ds_x_putLeaf_36 hab hk v_p1 v_x4_3 v_x5_4 100 (dv_n 0 (by decide)) (dv_n 1 (by decide)) (dv_n 0 (by decide)) hR h
noncomputable def dx_x_dropLeaf_107_b (k : Nat → Bool) (c_x4 c_x5 : Nat) (ih : Nat → Nat → Bool) (c_x7 M : Nat) : Bool := dx_in c_x4 24 (dx_fs (dx_ce M (Nat.add 1289 c_x4)) (fun c2 => dx_le c2 c_x7 (k M) (dx_fs (dx_add (dx_add c_x5 c_x7) 1) (fun c3 => dx_in c3 1920 (dx_fs (dx_add c_x5 c_x7) (fun c5 => dx_in c5 1920 (dx_fs (dx_ce M (Nat.add 1313 c3)) (fun c7 => dx_st M (Nat.add 1313 c5) c7 (fun M8 => dx_fs (dx_add c_x7 1) (fun c_x7_16 => ih c_x7_16 M8))))))))))
noncomputable def dx_x_dropLeaf_107 (k : Nat → Bool) (c_x4 c_x5 : Nat) (n : Nat) : Nat → Nat → Bool := Nat.rec (motive := fun _ => Nat → Nat → Bool) (fun _ _ => false) (fun _ ih => dx_x_dropLeaf_107_b k c_x4 c_x5 ih) n
theorem ds_x_dropLeaf_107 {a b : Int32} (hab : dx_ab a b) {post : St2 → Prop} {x4 x5 : Int32} {f0_made : Int32} {k : Nat → Bool} {c_x4 c_x5 : Nat} (hk : ∀ (M : Nat) (u : St2), dx_R a b M u → k M = true → post u) (v_x4 : dx_v a b c_x4 x4) (v_x5 : dx_v a b c_x5 x5) : ∀ (n : Nat) {x7 : Int32} {a1 a2 a3 a4 a5 a6 a7 a8 a9 a10 a11 a12 a13 a14 a15 a16 a17 a18 a19 a20 a21 a22 : Nat → Int32} {c_x7 : Nat} {M : Nat}, dx_v a b c_x7 x7 → dx_R a b M (f0_made, a1, a2, a3, a4, a5, a6, a7, a8, a9, a10, a11, a12, a13, a14, a15, a16, a17, a18, a19, a20, a21, a22) → dx_x_dropLeaf_107 k c_x4 c_x5 n c_x7 M = true → wX_dropLeaf_107 post x4 x5 f0_made n x7 a1 a2 a3 a4 a5 a6 a7 a8 a9 a10 a11 a12 a13 a14 a15 a16 a17 a18 a19 a20 a21 a22 := by
  intro n
  induction n with
  | zero =>
    intro x7 a1 a2 a3 a4 a5 a6 a7 a8 a9 a10 a11 a12 a13 a14 a15 a16 a17 a18 a19 a20 a21 a22 c_x7 M v_x7 hR h
    exact absurd (show false = true from h) (by decide)
  | succ n ih =>
    intro x7 a1 a2 a3 a4 a5 a6 a7 a8 a9 a10 a11 a12 a13 a14 a15 a16 a17 a18 a19 a20 a21 a22 c_x7 M v_x7 hR h
    replace h : dx_x_dropLeaf_107_b k c_x4 c_x5 (dx_x_dropLeaf_107 k c_x4 c_x5 n) c_x7 M = true := h
    unfold dx_x_dropLeaf_107_b at h
    refine dp_in (by decide) v_x4 h (fun l1 h => ?_)
    refine dp_fs (dr_g12 hR v_x4 l1) h (fun c2 v2 h => ?_)
    refine dp_le hab v2 v_x7 h (fun h => ?_) (fun h => ?_)
    · exact hk _ _ hR h
    · refine dp_fs (dv_add (dv_add v_x5 v_x7) (dv_n 1 (by decide))) h (fun c3 v3 h => ?_)
      refine dp_in (by decide) v3 h (fun l4 h => ?_)
      refine dp_fs (dv_add v_x5 v_x7) h (fun c5 v5 h => ?_)
      refine dp_in (by decide) v5 h (fun l6 h => ?_)
      refine dp_fs (dr_g13 hR v3 l4) h (fun c7 v7 h => ?_)
      intro a13_15 e_a13_15
      refine dp_st h (fun M8 m8 t8 h => ?_)
      have R8 := dr_u13 hR v5 l6 v7 t8 m8 e_a13_15
      intro x7_16 e_x7_16
      refine dp_fs (dv_of e_x7_16 (dv_add v_x7 (dv_n 1 (by decide)))) h (fun c_x7_16 v_x7_16 h => ?_)
      exact ih v_x7_16 R8 h
noncomputable def dx_x_dropLeaf_75 (k : Nat → Bool) (c_x4 c_x5 c_x6 : Nat) (M : Nat) : Bool := dx_in c_x4 24 (dx_fs (dx_ce M (Nat.add 1289 c_x4)) (fun c2 => dx_le c2 c_x6 (k M) (dx_fs (dx_sub c2 1) (fun c3 => dx_st M (Nat.add 1289 c_x4) c3 (fun M4 => dx_x_dropLeaf_107 k c_x4 c_x5 100 c_x6 M4)))))
theorem ds_x_dropLeaf_75 {a b : Int32} (hab : dx_ab a b) {post : St2 → Prop} {x4 x5 x6 : Int32} {f0_made : Int32} {a1 a2 a3 a4 a5 a6 a7 a8 a9 a10 a11 a12 a13 a14 a15 a16 a17 a18 a19 a20 a21 a22 : Nat → Int32} {k : Nat → Bool} {c_x4 c_x5 c_x6 : Nat} {M : Nat} (hk : ∀ (M : Nat) (u : St2), dx_R a b M u → k M = true → post u) (v_x4 : dx_v a b c_x4 x4) (v_x5 : dx_v a b c_x5 x5) (v_x6 : dx_v a b c_x6 x6) (hR : dx_R a b M (f0_made, a1, a2, a3, a4, a5, a6, a7, a8, a9, a10, a11, a12, a13, a14, a15, a16, a17, a18, a19, a20, a21, a22)) (h : dx_x_dropLeaf_75 k c_x4 c_x5 c_x6 M = true) : wX_dropLeaf_75 post x4 x5 x6 f0_made a1 a2 a3 a4 a5 a6 a7 a8 a9 a10 a11 a12 a13 a14 a15 a16 a17 a18 a19 a20 a21 a22 := by
  unfold dx_x_dropLeaf_75 at h
  refine dp_in (by decide) v_x4 h (fun l1 h => ?_)
  refine dp_fs (dr_g12 hR v_x4 l1) h (fun c2 v2 h => ?_)
  refine dp_le hab v2 v_x6 h (fun h => ?_) (fun h => ?_)
  · exact hk _ _ hR h
  · refine ⟨dv_in v_x4 l1 (by decide), ?_⟩
    refine ⟨dv_in v_x4 l1 (by decide), ?_⟩
    refine dp_fs (dv_sub v2 (dv_n 1 (by decide))) h (fun c3 v3 h => ?_)
    intro a12_10 e_a12_10
    refine dp_st h (fun M4 m4 t4 h => ?_)
    have R4 := dr_u12 hR v_x4 l1 v3 t4 m4 e_a12_10
    refine ⟨100, ?_⟩
    exact ds_x_dropLeaf_107 hab hk v_x4 v_x5 100 v_x6 R4 h
noncomputable def dx_x_dropLeaf_33_b (k : Nat → Bool) (c_x2 c_x4 c_x5 : Nat) (M : Nat) (ih : Nat → Nat → Bool) (c_x6 c_x7 : Nat) : Bool := dx_le 80 c_x7 (dx_x_dropLeaf_75 k c_x4 c_x5 c_x6 M) (dx_in c_x4 24 (dx_fs (dx_ce M (Nat.add 1289 c_x4)) (fun c2 => dx_le c2 c_x6 (dx_x_dropLeaf_75 k c_x4 c_x5 c_x6 M) (dx_fs (dx_add c_x5 c_x6) (fun c3 => dx_in c3 1920 (dx_fs (dx_ce M (Nat.add 1313 c3)) (fun c5 => dx_eq c5 c_x2 (dx_x_dropLeaf_75 k c_x4 c_x5 c_x6 M) (dx_fs (dx_add c_x6 1) (fun c_x6_21 => dx_fs (dx_add c_x7 1) (fun c_x7_22 => ih c_x6_21 c_x7_22))))))))))
noncomputable def dx_x_dropLeaf_33 (k : Nat → Bool) (c_x2 c_x4 c_x5 : Nat) (M : Nat) (n : Nat) : Nat → Nat → Bool := Nat.rec (motive := fun _ => Nat → Nat → Bool) (fun _ _ => false) (fun _ ih => dx_x_dropLeaf_33_b k c_x2 c_x4 c_x5 M ih) n
theorem ds_x_dropLeaf_33 {a b : Int32} (hab : dx_ab a b) {post : St2 → Prop} {x2 x4 x5 : Int32} {f0_made : Int32} {a1 a2 a3 a4 a5 a6 a7 a8 a9 a10 a11 a12 a13 a14 a15 a16 a17 a18 a19 a20 a21 a22 : Nat → Int32} {k : Nat → Bool} {c_x2 c_x4 c_x5 : Nat} {M : Nat} (hk : ∀ (M : Nat) (u : St2), dx_R a b M u → k M = true → post u) (v_x2 : dx_v a b c_x2 x2) (v_x4 : dx_v a b c_x4 x4) (v_x5 : dx_v a b c_x5 x5) (hR : dx_R a b M (f0_made, a1, a2, a3, a4, a5, a6, a7, a8, a9, a10, a11, a12, a13, a14, a15, a16, a17, a18, a19, a20, a21, a22)) : ∀ (n : Nat) {x6 x7 : Int32} {c_x6 c_x7 : Nat}, dx_v a b c_x6 x6 → dx_v a b c_x7 x7 → dx_x_dropLeaf_33 k c_x2 c_x4 c_x5 M n c_x6 c_x7 = true → wX_dropLeaf_33 post x2 x4 x5 f0_made a1 a2 a3 a4 a5 a6 a7 a8 a9 a10 a11 a12 a13 a14 a15 a16 a17 a18 a19 a20 a21 a22 n x6 x7 := by
  intro n
  induction n with
  | zero =>
    intro x6 x7 c_x6 c_x7 v_x6 v_x7 h
    exact absurd (show false = true from h) (by decide)
  | succ n ih =>
    intro x6 x7 c_x6 c_x7 v_x6 v_x7 h
    replace h : dx_x_dropLeaf_33_b k c_x2 c_x4 c_x5 M (dx_x_dropLeaf_33 k c_x2 c_x4 c_x5 M n) c_x6 c_x7 = true := h
    unfold dx_x_dropLeaf_33_b at h
    refine dp_le hab (dv_n 80 (by decide)) v_x7 h (fun h => ?_) (fun h => ?_)
    · exact ds_x_dropLeaf_75 hab hk v_x4 v_x5 v_x6 hR h
    · refine dp_in (by decide) v_x4 h (fun l1 h => ?_)
      refine dp_fs (dr_g12 hR v_x4 l1) h (fun c2 v2 h => ?_)
      refine dp_le hab v2 v_x6 h (fun h => ?_) (fun h => ?_)
      · exact ds_x_dropLeaf_75 hab hk v_x4 v_x5 v_x6 hR h
      · refine dp_fs (dv_add v_x5 v_x6) h (fun c3 v3 h => ?_)
        refine dp_in (by decide) v3 h (fun l4 h => ?_)
        refine dp_fs (dr_g13 hR v3 l4) h (fun c5 v5 h => ?_)
        refine dp_eq hab v5 v_x2 h (fun h => ?_) (fun h => ?_)
        · exact ds_x_dropLeaf_75 hab hk v_x4 v_x5 v_x6 hR h
        · intro x6_21 e_x6_21
          refine dp_fs (dv_of e_x6_21 (dv_add v_x6 (dv_n 1 (by decide)))) h (fun c_x6_21 v_x6_21 h => ?_)
          intro x7_22 e_x7_22
          refine dp_fs (dv_of e_x7_22 (dv_add v_x7 (dv_n 1 (by decide)))) h (fun c_x7_22 v_x7_22 h => ?_)
          exact ih v_x6_21 v_x7_22 h
noncomputable def dx_px_dropLeaf (k : Nat → Bool) (c_p0 c_p1 : Nat) (M : Nat) : Bool := dx_in c_p1 80 (dx_fs (dx_ce M (Nat.add 1 c_p1)) (fun c_x3_2 => dx_fs (dx_add (dx_mul 8 c_p0) c_x3_2) (fun c_x4_3 => dx_fs (dx_add (dx_mul 640 c_p0) (dx_mul 80 c_x3_2)) (fun c_x5_4 => dx_x_dropLeaf_33 k c_p1 c_x4_3 c_x5_4 M 100 0 0))))
theorem ds_px_dropLeaf {a b : Int32} (hab : dx_ab a b) {post : St2 → Prop} {p0 p1 : Int32} {u : St2} {k : Nat → Bool} {c_p0 c_p1 : Nat} {M : Nat} (hk : ∀ (M : Nat) (u : St2), dx_R a b M u → k M = true → post u) (v_p0 : dx_v a b c_p0 p0) (v_p1 : dx_v a b c_p1 p1) (hR : dx_R a b M u) (h : dx_px_dropLeaf k c_p0 c_p1 M = true) : wpX_dropLeaf post u p0 p1 := by
  unfold dx_px_dropLeaf at h
  obtain ⟨f0_made, a1, a2, a3, a4, a5, a6, a7, a8, a9, a10, a11, a12, a13, a14, a15, a16, a17, a18, a19, a20, a21, a22⟩ := u
  refine dp_in (by decide) v_p1 h (fun l1 h => ?_)
  intro x3_2 e_x3_2
  refine dp_fs (dv_of e_x3_2 (dr_g1 hR v_p1 l1)) h (fun c_x3_2 v_x3_2 h => ?_)
  intro x4_3 e_x4_3
  refine dp_fs (dv_of e_x4_3 (dv_add (dv_mul (dv_n 8 (by decide)) v_p0) v_x3_2)) h (fun c_x4_3 v_x4_3 h => ?_)
  intro x5_4 e_x5_4
  refine dp_fs (dv_of e_x5_4 (dv_add (dv_mul (dv_n 640 (by decide)) v_p0) (dv_mul (dv_n 80 (by decide)) v_x3_2))) h (fun c_x5_4 v_x5_4 h => ?_)
  refine ⟨100, ?_⟩
  exact ds_x_dropLeaf_33 hab hk v_p1 v_x4_3 v_x5_4 hR 100 (dv_n 0 (by decide)) (dv_n 0 (by decide)) h
noncomputable def dx_x_learn_92 (k : Nat → Bool) (c_x1 c_x2 : Nat) (M : Nat) : Bool := dx_px_putLeaf (fun M1 => k M1) c_x1 c_x2 M
theorem ds_x_learn_92 {a b : Int32} (hab : dx_ab a b) {post : St2 → Prop} {x1 x2 : Int32} {f0_made : Int32} {a1 a2 a3 a4 a5 a6 a7 a8 a9 a10 a11 a12 a13 a14 a15 a16 a17 a18 a19 a20 a21 a22 : Nat → Int32} {k : Nat → Bool} {c_x1 c_x2 : Nat} {M : Nat} (hk : ∀ (M : Nat) (u : St2), dx_R a b M u → k M = true → post u) (v_x1 : dx_v a b c_x1 x1) (v_x2 : dx_v a b c_x2 x2) (hR : dx_R a b M (f0_made, a1, a2, a3, a4, a5, a6, a7, a8, a9, a10, a11, a12, a13, a14, a15, a16, a17, a18, a19, a20, a21, a22)) (h : dx_x_learn_92 k c_x1 c_x2 M = true) : wX_learn_92 post x1 x2 f0_made a1 a2 a3 a4 a5 a6 a7 a8 a9 a10 a11 a12 a13 a14 a15 a16 a17 a18 a19 a20 a21 a22 := by
  unfold dx_x_learn_92 at h
  unfold wX_learn_92
  refine ds_px_putLeaf hab ?_ v_x1 v_x2 hR h
  intro M1 u1 R1 h
  obtain ⟨f0_made_11, am951_14, am952_17, am953_20, am954_23, am955_26, am956_29, am957_32, am958_35, am959_38, am9510_41, am9511_44, am9512_47, am9513_50, am9514_53, am9515_56, am9516_59, am9517_62, am9518_65, am9519_68, am9520_71, am9521_74, am9522_77⟩ := u1
  exact hk _ _ R1 h
noncomputable def dx_x_learn_68 (k : Nat → Bool) (c_x1 c_x2 c_x3 : Nat) (M : Nat) : Bool := dx_fs (dx_add (dx_mul 80 c_x1) c_x3) (fun c1 => dx_in c1 240 (dx_fs (dx_add (dx_ce M (Nat.add 809 c1)) 1) (fun c3 => dx_st M (Nat.add 809 c1) c3 (fun M4 => dx_x_learn_92 k c_x1 c_x2 M4))))
theorem ds_x_learn_68 {a b : Int32} (hab : dx_ab a b) {post : St2 → Prop} {x1 x2 x3 : Int32} {f0_made : Int32} {a1 a2 a3 a4 a5 a6 a7 a8 a9 a10 a11 a12 a13 a14 a15 a16 a17 a18 a19 a20 a21 a22 : Nat → Int32} {k : Nat → Bool} {c_x1 c_x2 c_x3 : Nat} {M : Nat} (hk : ∀ (M : Nat) (u : St2), dx_R a b M u → k M = true → post u) (v_x1 : dx_v a b c_x1 x1) (v_x2 : dx_v a b c_x2 x2) (v_x3 : dx_v a b c_x3 x3) (hR : dx_R a b M (f0_made, a1, a2, a3, a4, a5, a6, a7, a8, a9, a10, a11, a12, a13, a14, a15, a16, a17, a18, a19, a20, a21, a22)) (h : dx_x_learn_68 k c_x1 c_x2 c_x3 M = true) : wX_learn_68 post x1 x2 x3 f0_made a1 a2 a3 a4 a5 a6 a7 a8 a9 a10 a11 a12 a13 a14 a15 a16 a17 a18 a19 a20 a21 a22 := by
  unfold dx_x_learn_68 at h
  refine dp_fs (dv_add (dv_mul (dv_n 80 (by decide)) v_x1) v_x3) h (fun c1 v1 h => ?_)
  refine dp_in (by decide) v1 h (fun l2 h => ?_)
  refine ⟨dv_in v1 l2 (by decide), ?_⟩
  refine dp_fs (dv_add (dr_g10 hR v1 l2) (dv_n 1 (by decide))) h (fun c3 v3 h => ?_)
  intro a10_82 e_a10_82
  refine dp_st h (fun M4 m4 t4 h => ?_)
  have R4 := dr_u10 hR v1 l2 v3 t4 m4 e_a10_82
  exact ds_x_learn_92 hab hk v_x1 v_x2 R4 h
noncomputable def dx_px_learn (k : Nat → Bool) (c_p0 c_p1 : Nat) (M : Nat) : Bool := dx_in c_p1 80 (dx_fs (dx_ce M (Nat.add 81 c_p1)) (fun c_x3_2 => dx_fs (dx_add (dx_mul 80 c_p0) c_p1) (fun c2 => dx_in c2 240 (dx_st M (Nat.add 569 c2) 1 (fun M4 => dx_st M4 (Nat.add 809 c2) 0 (fun M5 => dx_st M5 (Nat.add 1049 c2) 0 (fun M6 => dx_eq c_x3_2 8192 (dx_x_learn_92 k c_p0 c_p1 M6) (dx_fs (dx_add (dx_mul 80 c_p0) c_x3_2) (fun c7 => dx_in c7 240 (dx_fs (dx_ce M6 (Nat.add 809 c7)) (fun c9 => dx_eq c9 0 (dx_px_dropLeaf (fun M10 => dx_x_learn_68 k c_p0 c_p1 c_x3_2 M10) c_p0 c_x3_2 M6) (dx_x_learn_68 k c_p0 c_p1 c_x3_2 M6))))))))))))
theorem ds_px_learn {a b : Int32} (hab : dx_ab a b) {post : St2 → Prop} {p0 p1 : Int32} {u : St2} {k : Nat → Bool} {c_p0 c_p1 : Nat} {M : Nat} (hk : ∀ (M : Nat) (u : St2), dx_R a b M u → k M = true → post u) (v_p0 : dx_v a b c_p0 p0) (v_p1 : dx_v a b c_p1 p1) (hR : dx_R a b M u) (h : dx_px_learn k c_p0 c_p1 M = true) : wpX_learn post u p0 p1 := by
  unfold dx_px_learn at h
  obtain ⟨f0_made, a1, a2, a3, a4, a5, a6, a7, a8, a9, a10, a11, a12, a13, a14, a15, a16, a17, a18, a19, a20, a21, a22⟩ := u
  refine dp_in (by decide) v_p1 h (fun l1 h => ?_)
  intro x3_2 e_x3_2
  refine dp_fs (dv_of e_x3_2 (dr_g2 hR v_p1 l1)) h (fun c_x3_2 v_x3_2 h => ?_)
  refine dp_fs (dv_add (dv_mul (dv_n 80 (by decide)) v_p0) v_p1) h (fun c2 v2 h => ?_)
  refine dp_in (by decide) v2 h (fun l3 h => ?_)
  intro a9_4 e_a9_4
  refine dp_st h (fun M4 m4 t4 h => ?_)
  have R4 := dr_u9 hR v2 l3 (dv_n 1 (by decide)) t4 m4 e_a9_4
  refine ⟨dv_in v2 l3 (by decide), ?_⟩
  intro a10_6 e_a10_6
  refine dp_st h (fun M5 m5 t5 h => ?_)
  have R5 := dr_u10 R4 v2 l3 (dv_n 0 (by decide)) t5 m5 e_a10_6
  refine ⟨dv_in v2 l3 (by decide), ?_⟩
  intro a11_8 e_a11_8
  refine dp_st h (fun M6 m6 t6 h => ?_)
  have R6 := dr_u11 R5 v2 l3 (dv_n 0 (by decide)) t6 m6 e_a11_8
  refine dp_eq hab v_x3_2 dv_m1 h (fun h => ?_) (fun h => ?_)
  · exact ds_x_learn_92 hab hk v_p0 v_p1 R6 h
  · refine dp_fs (dv_add (dv_mul (dv_n 80 (by decide)) v_p0) v_x3_2) h (fun c7 v7 h => ?_)
    refine dp_in (by decide) v7 h (fun l8 h => ?_)
    refine dp_fs (dr_g10 R6 v7 l8) h (fun c9 v9 h => ?_)
    refine dp_eq hab v9 (dv_n 0 (by decide)) h (fun h => ?_) (fun h => ?_)
    · refine ds_px_dropLeaf hab ?_ v_p0 v_x3_2 R6 h
      intro M10 u10 R10 h
      obtain ⟨f0_made_84, am651_87, am652_90, am653_93, am654_96, am655_99, am656_102, am657_105, am658_108, am659_111, am6510_114, am6511_117, am6512_120, am6513_123, am6514_126, am6515_129, am6516_132, am6517_135, am6518_138, am6519_141, am6520_144, am6521_147, am6522_150⟩ := u10
      exact ds_x_learn_68 hab hk v_p0 v_p1 v_x3_2 R10 h
    · exact ds_x_learn_68 hab hk v_p0 v_p1 v_x3_2 R6 h
noncomputable def dx_px_stampNow (k : Nat → Bool) (c_p0 c_p1 : Nat) (M : Nat) : Bool := dx_in c_p0 3 (dx_fs (dx_add (dx_ce M (Nat.add 3233 c_p0)) 1) (fun c2 => dx_st M (Nat.add 3233 c_p0) c2 (fun M3 => dx_fs (dx_add (dx_mul 8 c_p0) c_p1) (fun c4 => dx_in c4 24 (dx_fs (dx_ce M3 (Nat.add 3233 c_p0)) (fun c6 => dx_st M3 (Nat.add 3236 c4) c6 (fun M7 => k M7)))))))
theorem ds_px_stampNow {a b : Int32} (hab : dx_ab a b) {post : St2 → Prop} {p0 p1 : Int32} {u : St2} {k : Nat → Bool} {c_p0 c_p1 : Nat} {M : Nat} (hk : ∀ (M : Nat) (u : St2), dx_R a b M u → k M = true → post u) (v_p0 : dx_v a b c_p0 p0) (v_p1 : dx_v a b c_p1 p1) (hR : dx_R a b M u) (h : dx_px_stampNow k c_p0 c_p1 M = true) : wpX_stampNow post u p0 p1 := by
  unfold dx_px_stampNow at h
  obtain ⟨f0_made, a1, a2, a3, a4, a5, a6, a7, a8, a9, a10, a11, a12, a13, a14, a15, a16, a17, a18, a19, a20, a21, a22⟩ := u
  refine dp_in (by decide) v_p0 h (fun l1 h => ?_)
  refine ⟨dv_in v_p0 l1 (by decide), ?_⟩
  refine dp_fs (dv_add (dr_g14 hR v_p0 l1) (dv_n 1 (by decide))) h (fun c2 v2 h => ?_)
  intro a14_3 e_a14_3
  refine dp_st h (fun M3 m3 t3 h => ?_)
  have R3 := dr_u14 hR v_p0 l1 v2 t3 m3 e_a14_3
  refine ⟨dv_in v_p0 l1 (by decide), ?_⟩
  refine dp_fs (dv_add (dv_mul (dv_n 8 (by decide)) v_p0) v_p1) h (fun c4 v4 h => ?_)
  refine dp_in (by decide) v4 h (fun l5 h => ?_)
  refine dp_fs (dr_g14 R3 v_p0 l1) h (fun c6 v6 h => ?_)
  intro a15_6 e_a15_6
  refine dp_st h (fun M7 m7 t7 h => ?_)
  have R7 := dr_u15 R3 v4 l5 v6 t7 m7 e_a15_6
  exact hk _ _ R7 h
end
section
noncomputable def dx_px_viewBefore (k : Nat → Bool) (c_p0 c_p1 c_p2 : Nat) (M : Nat) : Bool := dx_fs (dx_add (dx_mul 8 c_p0) c_p1) (fun c1 => dx_in c1 24 (dx_fs (dx_ce M (Nat.add 3320 c1)) (fun c_x4_2 => dx_fs (dx_add (dx_mul 8 c_p0) c_p2) (fun c3 => dx_in c3 24 (dx_fs (dx_ce M (Nat.add 3320 c3)) (fun c_x5_4 => dx_eq c_x4_2 c_x5_4 (dx_le c_p2 c_p1 (k 0) (k 1)) (dx_le c_x5_4 c_x4_2 (k 0) (k 1))))))))
theorem ds_px_viewBefore {a b : Int32} (hab : dx_ab a b) {post : Int32 → Prop} {p0 p1 p2 : Int32} {u : St2} {k : Nat → Bool} {c_p0 c_p1 c_p2 : Nat} {M : Nat} (hk : ∀ (c : Nat) (r : Int32), dx_v a b c r → k c = true → post r) (v_p0 : dx_v a b c_p0 p0) (v_p1 : dx_v a b c_p1 p1) (v_p2 : dx_v a b c_p2 p2) (hR : dx_R a b M u) (h : dx_px_viewBefore k c_p0 c_p1 c_p2 M = true) : wpX_viewBefore post u p0 p1 p2 := by
  unfold dx_px_viewBefore at h
  obtain ⟨f0_made, a1, a2, a3, a4, a5, a6, a7, a8, a9, a10, a11, a12, a13, a14, a15, a16, a17, a18, a19, a20, a21, a22⟩ := u
  refine dp_fs (dv_add (dv_mul (dv_n 8 (by decide)) v_p0) v_p1) h (fun c1 v1 h => ?_)
  refine dp_in (by decide) v1 h (fun l2 h => ?_)
  intro x4_2 e_x4_2
  refine dp_fs (dv_of e_x4_2 (dr_g20 hR v1 l2)) h (fun c_x4_2 v_x4_2 h => ?_)
  refine dp_fs (dv_add (dv_mul (dv_n 8 (by decide)) v_p0) v_p2) h (fun c3 v3 h => ?_)
  refine dp_in (by decide) v3 h (fun l4 h => ?_)
  intro x5_4 e_x5_4
  refine dp_fs (dv_of e_x5_4 (dr_g20 hR v3 l4)) h (fun c_x5_4 v_x5_4 h => ?_)
  refine dp_eq hab v_x4_2 v_x5_4 h (fun h => ?_) (fun h => ?_)
  · refine dp_le hab v_p2 v_p1 h (fun h => ?_) (fun h => ?_)
    · exact hk _ _ (dv_n 0 (by decide)) h
    · exact hk _ _ (dv_n 1 (by decide)) h
  · refine dp_le hab v_x5_4 v_x4_2 h (fun h => ?_) (fun h => ?_)
    · exact hk _ _ (dv_n 0 (by decide)) h
    · exact hk _ _ (dv_n 1 (by decide)) h
noncomputable def dx_x_putIntoView_105 (k : Nat → Bool) (c_x1 c_x2 c_x4 : Nat) (M : Nat) : Bool := dx_fs (dx_add (dx_mul 8 c_x1) c_x4) (fun c1 => dx_in c1 24 (dx_st M (Nat.add 3272 c1) c_x2 (fun M3 => dx_in c_x1 3 (dx_fs (dx_add (dx_ce M3 (Nat.add 3269 c_x1)) 1) (fun c5 => dx_st M3 (Nat.add 3269 c_x1) c5 (fun M6 => k M6))))))
theorem ds_x_putIntoView_105 {a b : Int32} (hab : dx_ab a b) {post : St2 → Prop} {x1 x2 x4 : Int32} {f0_made : Int32} {a1 a2 a3 a4 a5 a6 a7 a8 a9 a10 a11 a12 a13 a14 a15 a16 a17 a18 a19 a20 a21 a22 : Nat → Int32} {k : Nat → Bool} {c_x1 c_x2 c_x4 : Nat} {M : Nat} (hk : ∀ (M : Nat) (u : St2), dx_R a b M u → k M = true → post u) (v_x1 : dx_v a b c_x1 x1) (v_x2 : dx_v a b c_x2 x2) (v_x4 : dx_v a b c_x4 x4) (hR : dx_R a b M (f0_made, a1, a2, a3, a4, a5, a6, a7, a8, a9, a10, a11, a12, a13, a14, a15, a16, a17, a18, a19, a20, a21, a22)) (h : dx_x_putIntoView_105 k c_x1 c_x2 c_x4 M = true) : wX_putIntoView_105 post x1 x2 x4 f0_made a1 a2 a3 a4 a5 a6 a7 a8 a9 a10 a11 a12 a13 a14 a15 a16 a17 a18 a19 a20 a21 a22 := by
  unfold dx_x_putIntoView_105 at h
  refine dp_fs (dv_add (dv_mul (dv_n 8 (by decide)) v_x1) v_x4) h (fun c1 v1 h => ?_)
  refine dp_in (by decide) v1 h (fun l2 h => ?_)
  intro a18_9 e_a18_9
  refine dp_st h (fun M3 m3 t3 h => ?_)
  have R3 := dr_u18 hR v1 l2 v_x2 t3 m3 e_a18_9
  refine dp_in (by decide) v_x1 h (fun l4 h => ?_)
  refine ⟨dv_in v_x1 l4 (by decide), ?_⟩
  refine dp_fs (dv_add (dr_g17 R3 v_x1 l4) (dv_n 1 (by decide))) h (fun c5 v5 h => ?_)
  intro a17_12 e_a17_12
  refine dp_st h (fun M6 m6 t6 h => ?_)
  have R6 := dr_u17 R3 v_x1 l4 v5 t6 m6 e_a17_12
  exact hk _ _ R6 h
noncomputable def dx_x_putIntoView_35_b (k : Nat → Bool) (c_x1 c_x2 : Nat) (ih : Nat → Nat → Nat → Bool) (c_x4 c_x5 M : Nat) : Bool := dx_le 8 c_x5 (dx_x_putIntoView_105 k c_x1 c_x2 c_x4 M) (dx_le c_x4 0 (dx_x_putIntoView_105 k c_x1 c_x2 c_x4 M) (dx_fs (dx_sub (dx_add (dx_mul 8 c_x1) c_x4) 1) (fun c1 => dx_in c1 24 (dx_fs (dx_ce M (Nat.add 3272 c1)) (fun c3 => dx_px_viewBefore (fun c_r_15 => dx_eq c_r_15 0 (dx_x_putIntoView_105 k c_x1 c_x2 c_x4 M) (dx_fs (dx_add (dx_mul 8 c_x1) c_x4) (fun c4 => dx_in c4 24 (dx_st M (Nat.add 3272 c4) c3 (fun M6 => dx_fs (dx_add c_x4 8192) (fun c_x4_20 => dx_fs (dx_add c_x5 1) (fun c_x5_21 => ih c_x4_20 c_x5_21 M6))))))) c_x1 c_x2 c3 M)))))
noncomputable def dx_x_putIntoView_35 (k : Nat → Bool) (c_x1 c_x2 : Nat) (n : Nat) : Nat → Nat → Nat → Bool := Nat.rec (motive := fun _ => Nat → Nat → Nat → Bool) (fun _ _ _ => false) (fun _ ih => dx_x_putIntoView_35_b k c_x1 c_x2 ih) n
theorem ds_x_putIntoView_35 {a b : Int32} (hab : dx_ab a b) {post : St2 → Prop} {x1 x2 : Int32} {f0_made : Int32} {k : Nat → Bool} {c_x1 c_x2 : Nat} (hk : ∀ (M : Nat) (u : St2), dx_R a b M u → k M = true → post u) (v_x1 : dx_v a b c_x1 x1) (v_x2 : dx_v a b c_x2 x2) : ∀ (n : Nat) {x4 x5 : Int32} {a1 a2 a3 a4 a5 a6 a7 a8 a9 a10 a11 a12 a13 a14 a15 a16 a17 a18 a19 a20 a21 a22 : Nat → Int32} {c_x4 c_x5 : Nat} {M : Nat}, dx_v a b c_x4 x4 → dx_v a b c_x5 x5 → dx_R a b M (f0_made, a1, a2, a3, a4, a5, a6, a7, a8, a9, a10, a11, a12, a13, a14, a15, a16, a17, a18, a19, a20, a21, a22) → dx_x_putIntoView_35 k c_x1 c_x2 n c_x4 c_x5 M = true → wX_putIntoView_35 post x1 x2 f0_made n x4 x5 a1 a2 a3 a4 a5 a6 a7 a8 a9 a10 a11 a12 a13 a14 a15 a16 a17 a18 a19 a20 a21 a22 := by
  intro n
  induction n with
  | zero =>
    intro x4 x5 a1 a2 a3 a4 a5 a6 a7 a8 a9 a10 a11 a12 a13 a14 a15 a16 a17 a18 a19 a20 a21 a22 c_x4 c_x5 M v_x4 v_x5 hR h
    exact absurd (show false = true from h) (by decide)
  | succ n ih =>
    intro x4 x5 a1 a2 a3 a4 a5 a6 a7 a8 a9 a10 a11 a12 a13 a14 a15 a16 a17 a18 a19 a20 a21 a22 c_x4 c_x5 M v_x4 v_x5 hR h
    replace h : dx_x_putIntoView_35_b k c_x1 c_x2 (dx_x_putIntoView_35 k c_x1 c_x2 n) c_x4 c_x5 M = true := h
    unfold dx_x_putIntoView_35_b at h
    refine dp_le hab (dv_n 8 (by decide)) v_x5 h (fun h => ?_) (fun h => ?_)
    · exact ds_x_putIntoView_105 hab hk v_x1 v_x2 v_x4 hR h
    · refine dp_le hab v_x4 (dv_n 0 (by decide)) h (fun h => ?_) (fun h => ?_)
      · exact ds_x_putIntoView_105 hab hk v_x1 v_x2 v_x4 hR h
      · refine dp_fs (dv_sub (dv_add (dv_mul (dv_n 8 (by decide)) v_x1) v_x4) (dv_n 1 (by decide))) h (fun c1 v1 h => ?_)
        refine dp_in (by decide) v1 h (fun l2 h => ?_)
        refine dp_fs (dr_g18 hR v1 l2) h (fun c3 v3 h => ?_)
        refine ds_px_viewBefore hab ?_ v_x1 v_x2 v3 hR h
        intro c_r_15 r_15 v_r_15 h
        refine dp_eq hab v_r_15 (dv_n 0 (by decide)) h (fun h => ?_) (fun h => ?_)
        · exact ds_x_putIntoView_105 hab hk v_x1 v_x2 v_x4 hR h
        · refine ⟨dv_in v1 l2 (by decide), ?_⟩
          refine dp_fs (dv_add (dv_mul (dv_n 8 (by decide)) v_x1) v_x4) h (fun c4 v4 h => ?_)
          refine dp_in (by decide) v4 h (fun l5 h => ?_)
          intro a18_19 e_a18_19
          refine dp_st h (fun M6 m6 t6 h => ?_)
          have R6 := dr_u18 hR v4 l5 v3 t6 m6 e_a18_19
          intro x4_20 e_x4_20
          refine dp_fs (dv_of e_x4_20 (dv_add v_x4 dv_m1)) h (fun c_x4_20 v_x4_20 h => ?_)
          intro x5_21 e_x5_21
          refine dp_fs (dv_of e_x5_21 (dv_add v_x5 (dv_n 1 (by decide)))) h (fun c_x5_21 v_x5_21 h => ?_)
          exact ih v_x4_20 v_x5_21 R6 h
noncomputable def dx_px_putIntoView (k : Nat → Bool) (c_p0 c_p1 c_p2 : Nat) (M : Nat) : Bool := dx_fs (dx_add (dx_mul 8 c_p0) c_p1) (fun c1 => dx_in c1 24 (dx_st M (Nat.add 3320 c1) c_p2 (fun M3 => dx_st M3 (Nat.add 3296 c1) 1 (fun M4 => dx_in c_p0 3 (dx_fs (dx_ce M4 (Nat.add 3269 c_p0)) (fun c_x4_6 => dx_x_putIntoView_35 k c_p0 c_p1 100 c_x4_6 0 M4))))))
theorem ds_px_putIntoView {a b : Int32} (hab : dx_ab a b) {post : St2 → Prop} {p0 p1 p2 : Int32} {u : St2} {k : Nat → Bool} {c_p0 c_p1 c_p2 : Nat} {M : Nat} (hk : ∀ (M : Nat) (u : St2), dx_R a b M u → k M = true → post u) (v_p0 : dx_v a b c_p0 p0) (v_p1 : dx_v a b c_p1 p1) (v_p2 : dx_v a b c_p2 p2) (hR : dx_R a b M u) (h : dx_px_putIntoView k c_p0 c_p1 c_p2 M = true) : wpX_putIntoView post u p0 p1 p2 := by
  unfold dx_px_putIntoView at h
  obtain ⟨f0_made, a1, a2, a3, a4, a5, a6, a7, a8, a9, a10, a11, a12, a13, a14, a15, a16, a17, a18, a19, a20, a21, a22⟩ := u
  refine dp_fs (dv_add (dv_mul (dv_n 8 (by decide)) v_p0) v_p1) h (fun c1 v1 h => ?_)
  refine dp_in (by decide) v1 h (fun l2 h => ?_)
  intro a20_2 e_a20_2
  refine dp_st h (fun M3 m3 t3 h => ?_)
  have R3 := dr_u20 hR v1 l2 v_p2 t3 m3 e_a20_2
  refine ⟨dv_in v1 l2 (by decide), ?_⟩
  intro a19_4 e_a19_4
  refine dp_st h (fun M4 m4 t4 h => ?_)
  have R4 := dr_u19 R3 v1 l2 (dv_n 1 (by decide)) t4 m4 e_a19_4
  refine dp_in (by decide) v_p0 h (fun l5 h => ?_)
  intro x4_6 e_x4_6
  refine dp_fs (dv_of e_x4_6 (dr_g17 R4 v_p0 l5)) h (fun c_x4_6 v_x4_6 h => ?_)
  refine ⟨100, ?_⟩
  exact ds_x_putIntoView_35 hab hk v_p0 v_p1 100 v_x4_6 (dv_n 0 (by decide)) R4 h
noncomputable def dx_x_takeFromView_53_b (k : Nat → Bool) (c_x1 c_x2 : Nat) (ih : Nat → Nat → Bool) (c_x4 M : Nat) : Bool := dx_in c_x1 3 (dx_fs (dx_ce M (Nat.add 3269 c_x1)) (fun c2 => dx_le c2 c_x4 (dx_fs (dx_add (dx_mul 8 c_x1) c_x2) (fun c3 => dx_in c3 24 (dx_st M (Nat.add 3296 c3) 0 (fun M5 => k M5)))) (dx_fs (dx_add (dx_add (dx_mul 8 c_x1) c_x4) 1) (fun c6 => dx_in c6 24 (dx_fs (dx_add (dx_mul 8 c_x1) c_x4) (fun c8 => dx_in c8 24 (dx_fs (dx_ce M (Nat.add 3272 c6)) (fun c10 => dx_st M (Nat.add 3272 c8) c10 (fun M11 => dx_fs (dx_add c_x4 1) (fun c_x4_12 => ih c_x4_12 M11))))))))))
noncomputable def dx_x_takeFromView_53 (k : Nat → Bool) (c_x1 c_x2 : Nat) (n : Nat) : Nat → Nat → Bool := Nat.rec (motive := fun _ => Nat → Nat → Bool) (fun _ _ => false) (fun _ ih => dx_x_takeFromView_53_b k c_x1 c_x2 ih) n
theorem ds_x_takeFromView_53 {a b : Int32} (hab : dx_ab a b) {post : St2 → Prop} {x1 x2 : Int32} {f0_made : Int32} {k : Nat → Bool} {c_x1 c_x2 : Nat} (hk : ∀ (M : Nat) (u : St2), dx_R a b M u → k M = true → post u) (v_x1 : dx_v a b c_x1 x1) (v_x2 : dx_v a b c_x2 x2) : ∀ (n : Nat) {x4 : Int32} {a1 a2 a3 a4 a5 a6 a7 a8 a9 a10 a11 a12 a13 a14 a15 a16 a17 a18 a19 a20 a21 a22 : Nat → Int32} {c_x4 : Nat} {M : Nat}, dx_v a b c_x4 x4 → dx_R a b M (f0_made, a1, a2, a3, a4, a5, a6, a7, a8, a9, a10, a11, a12, a13, a14, a15, a16, a17, a18, a19, a20, a21, a22) → dx_x_takeFromView_53 k c_x1 c_x2 n c_x4 M = true → wX_takeFromView_53 post x1 x2 f0_made n x4 a1 a2 a3 a4 a5 a6 a7 a8 a9 a10 a11 a12 a13 a14 a15 a16 a17 a18 a19 a20 a21 a22 := by
  intro n
  induction n with
  | zero =>
    intro x4 a1 a2 a3 a4 a5 a6 a7 a8 a9 a10 a11 a12 a13 a14 a15 a16 a17 a18 a19 a20 a21 a22 c_x4 M v_x4 hR h
    exact absurd (show false = true from h) (by decide)
  | succ n ih =>
    intro x4 a1 a2 a3 a4 a5 a6 a7 a8 a9 a10 a11 a12 a13 a14 a15 a16 a17 a18 a19 a20 a21 a22 c_x4 M v_x4 hR h
    replace h : dx_x_takeFromView_53_b k c_x1 c_x2 (dx_x_takeFromView_53 k c_x1 c_x2 n) c_x4 M = true := h
    unfold dx_x_takeFromView_53_b at h
    refine dp_in (by decide) v_x1 h (fun l1 h => ?_)
    refine dp_fs (dr_g17 hR v_x1 l1) h (fun c2 v2 h => ?_)
    refine dp_le hab v2 v_x4 h (fun h => ?_) (fun h => ?_)
    · refine dp_fs (dv_add (dv_mul (dv_n 8 (by decide)) v_x1) v_x2) h (fun c3 v3 h => ?_)
      refine dp_in (by decide) v3 h (fun l4 h => ?_)
      intro a19_8 e_a19_8
      refine dp_st h (fun M5 m5 t5 h => ?_)
      have R5 := dr_u19 hR v3 l4 (dv_n 0 (by decide)) t5 m5 e_a19_8
      exact hk _ _ R5 h
    · refine dp_fs (dv_add (dv_add (dv_mul (dv_n 8 (by decide)) v_x1) v_x4) (dv_n 1 (by decide))) h (fun c6 v6 h => ?_)
      refine dp_in (by decide) v6 h (fun l7 h => ?_)
      refine dp_fs (dv_add (dv_mul (dv_n 8 (by decide)) v_x1) v_x4) h (fun c8 v8 h => ?_)
      refine dp_in (by decide) v8 h (fun l9 h => ?_)
      refine dp_fs (dr_g18 hR v6 l7) h (fun c10 v10 h => ?_)
      intro a18_11 e_a18_11
      refine dp_st h (fun M11 m11 t11 h => ?_)
      have R11 := dr_u18 hR v8 l9 v10 t11 m11 e_a18_11
      intro x4_12 e_x4_12
      refine dp_fs (dv_of e_x4_12 (dv_add v_x4 (dv_n 1 (by decide)))) h (fun c_x4_12 v_x4_12 h => ?_)
      exact ih v_x4_12 R11 h
noncomputable def dx_x_takeFromView_36 (k : Nat → Bool) (c_x1 c_x2 c_x3 : Nat) (M : Nat) : Bool := dx_in c_x1 3 (dx_fs (dx_sub (dx_ce M (Nat.add 3269 c_x1)) 1) (fun c2 => dx_st M (Nat.add 3269 c_x1) c2 (fun M3 => dx_x_takeFromView_53 k c_x1 c_x2 100 c_x3 M3)))
theorem ds_x_takeFromView_36 {a b : Int32} (hab : dx_ab a b) {post : St2 → Prop} {x1 x2 x3 : Int32} {f0_made : Int32} {a1 a2 a3 a4 a5 a6 a7 a8 a9 a10 a11 a12 a13 a14 a15 a16 a17 a18 a19 a20 a21 a22 : Nat → Int32} {k : Nat → Bool} {c_x1 c_x2 c_x3 : Nat} {M : Nat} (hk : ∀ (M : Nat) (u : St2), dx_R a b M u → k M = true → post u) (v_x1 : dx_v a b c_x1 x1) (v_x2 : dx_v a b c_x2 x2) (v_x3 : dx_v a b c_x3 x3) (hR : dx_R a b M (f0_made, a1, a2, a3, a4, a5, a6, a7, a8, a9, a10, a11, a12, a13, a14, a15, a16, a17, a18, a19, a20, a21, a22)) (h : dx_x_takeFromView_36 k c_x1 c_x2 c_x3 M = true) : wX_takeFromView_36 post x1 x2 x3 f0_made a1 a2 a3 a4 a5 a6 a7 a8 a9 a10 a11 a12 a13 a14 a15 a16 a17 a18 a19 a20 a21 a22 := by
  unfold dx_x_takeFromView_36 at h
  refine dp_in (by decide) v_x1 h (fun l1 h => ?_)
  refine ⟨dv_in v_x1 l1 (by decide), ?_⟩
  refine dp_fs (dv_sub (dr_g17 hR v_x1 l1) (dv_n 1 (by decide))) h (fun c2 v2 h => ?_)
  intro a17_4 e_a17_4
  refine dp_st h (fun M3 m3 t3 h => ?_)
  have R3 := dr_u17 hR v_x1 l1 v2 t3 m3 e_a17_4
  refine ⟨100, ?_⟩
  exact ds_x_takeFromView_53 hab hk v_x1 v_x2 100 v_x3 R3 h
noncomputable def dx_x_takeFromView_5_b (k : Nat → Bool) (c_x1 c_x2 : Nat) (M : Nat) (ih : Nat → Nat → Bool) (c_x3 c_x4 : Nat) : Bool := dx_le 8 c_x4 (dx_x_takeFromView_36 k c_x1 c_x2 c_x3 M) (dx_fs (dx_add (dx_mul 8 c_x1) c_x3) (fun c1 => dx_in c1 24 (dx_fs (dx_ce M (Nat.add 3272 c1)) (fun c3 => dx_eq c3 c_x2 (dx_x_takeFromView_36 k c_x1 c_x2 c_x3 M) (dx_fs (dx_add c_x3 1) (fun c_x3_15 => dx_fs (dx_add c_x4 1) (fun c_x4_16 => ih c_x3_15 c_x4_16)))))))
noncomputable def dx_x_takeFromView_5 (k : Nat → Bool) (c_x1 c_x2 : Nat) (M : Nat) (n : Nat) : Nat → Nat → Bool := Nat.rec (motive := fun _ => Nat → Nat → Bool) (fun _ _ => false) (fun _ ih => dx_x_takeFromView_5_b k c_x1 c_x2 M ih) n
theorem ds_x_takeFromView_5 {a b : Int32} (hab : dx_ab a b) {post : St2 → Prop} {x1 x2 : Int32} {f0_made : Int32} {a1 a2 a3 a4 a5 a6 a7 a8 a9 a10 a11 a12 a13 a14 a15 a16 a17 a18 a19 a20 a21 a22 : Nat → Int32} {k : Nat → Bool} {c_x1 c_x2 : Nat} {M : Nat} (hk : ∀ (M : Nat) (u : St2), dx_R a b M u → k M = true → post u) (v_x1 : dx_v a b c_x1 x1) (v_x2 : dx_v a b c_x2 x2) (hR : dx_R a b M (f0_made, a1, a2, a3, a4, a5, a6, a7, a8, a9, a10, a11, a12, a13, a14, a15, a16, a17, a18, a19, a20, a21, a22)) : ∀ (n : Nat) {x3 x4 : Int32} {c_x3 c_x4 : Nat}, dx_v a b c_x3 x3 → dx_v a b c_x4 x4 → dx_x_takeFromView_5 k c_x1 c_x2 M n c_x3 c_x4 = true → wX_takeFromView_5 post x1 x2 f0_made a1 a2 a3 a4 a5 a6 a7 a8 a9 a10 a11 a12 a13 a14 a15 a16 a17 a18 a19 a20 a21 a22 n x3 x4 := by
  intro n
  induction n with
  | zero =>
    intro x3 x4 c_x3 c_x4 v_x3 v_x4 h
    exact absurd (show false = true from h) (by decide)
  | succ n ih =>
    intro x3 x4 c_x3 c_x4 v_x3 v_x4 h
    replace h : dx_x_takeFromView_5_b k c_x1 c_x2 M (dx_x_takeFromView_5 k c_x1 c_x2 M n) c_x3 c_x4 = true := h
    unfold dx_x_takeFromView_5_b at h
    refine dp_le hab (dv_n 8 (by decide)) v_x4 h (fun h => ?_) (fun h => ?_)
    · exact ds_x_takeFromView_36 hab hk v_x1 v_x2 v_x3 hR h
    · refine dp_fs (dv_add (dv_mul (dv_n 8 (by decide)) v_x1) v_x3) h (fun c1 v1 h => ?_)
      refine dp_in (by decide) v1 h (fun l2 h => ?_)
      refine dp_fs (dr_g18 hR v1 l2) h (fun c3 v3 h => ?_)
      refine dp_eq hab v3 v_x2 h (fun h => ?_) (fun h => ?_)
      · exact ds_x_takeFromView_36 hab hk v_x1 v_x2 v_x3 hR h
      · intro x3_15 e_x3_15
        refine dp_fs (dv_of e_x3_15 (dv_add v_x3 (dv_n 1 (by decide)))) h (fun c_x3_15 v_x3_15 h => ?_)
        intro x4_16 e_x4_16
        refine dp_fs (dv_of e_x4_16 (dv_add v_x4 (dv_n 1 (by decide)))) h (fun c_x4_16 v_x4_16 h => ?_)
        exact ih v_x3_15 v_x4_16 h
noncomputable def dx_px_takeFromView (k : Nat → Bool) (c_p0 c_p1 : Nat) (M : Nat) : Bool := dx_x_takeFromView_5 k c_p0 c_p1 M 100 0 0
theorem ds_px_takeFromView {a b : Int32} (hab : dx_ab a b) {post : St2 → Prop} {p0 p1 : Int32} {u : St2} {k : Nat → Bool} {c_p0 c_p1 : Nat} {M : Nat} (hk : ∀ (M : Nat) (u : St2), dx_R a b M u → k M = true → post u) (v_p0 : dx_v a b c_p0 p0) (v_p1 : dx_v a b c_p1 p1) (hR : dx_R a b M u) (h : dx_px_takeFromView k c_p0 c_p1 M = true) : wpX_takeFromView post u p0 p1 := by
  unfold dx_px_takeFromView at h
  obtain ⟨f0_made, a1, a2, a3, a4, a5, a6, a7, a8, a9, a10, a11, a12, a13, a14, a15, a16, a17, a18, a19, a20, a21, a22⟩ := u
  refine ⟨100, ?_⟩
  exact ds_x_takeFromView_5 hab hk v_p0 v_p1 hR 100 (dv_n 0 (by decide)) (dv_n 0 (by decide)) h
noncomputable def dx_x_renew_83 (k : Nat → Bool) (c_x1 c_x2 c_x3 c_x4 : Nat) (M : Nat) : Bool := dx_eq c_x4 0 (k M) (dx_in c_x3 80 (dx_fs (dx_ce M (Nat.add 161 c_x3)) (fun c2 => dx_px_putIntoView (fun M3 => k M3) c_x1 c_x2 c2 M)))
theorem ds_x_renew_83 {a b : Int32} (hab : dx_ab a b) {post : St2 → Prop} {x1 x2 x3 x4 : Int32} {f0_made : Int32} {a1 a2 a3 a4 a5 a6 a7 a8 a9 a10 a11 a12 a13 a14 a15 a16 a17 a18 a19 a20 a21 a22 : Nat → Int32} {k : Nat → Bool} {c_x1 c_x2 c_x3 c_x4 : Nat} {M : Nat} (hk : ∀ (M : Nat) (u : St2), dx_R a b M u → k M = true → post u) (v_x1 : dx_v a b c_x1 x1) (v_x2 : dx_v a b c_x2 x2) (v_x3 : dx_v a b c_x3 x3) (v_x4 : dx_v a b c_x4 x4) (hR : dx_R a b M (f0_made, a1, a2, a3, a4, a5, a6, a7, a8, a9, a10, a11, a12, a13, a14, a15, a16, a17, a18, a19, a20, a21, a22)) (h : dx_x_renew_83 k c_x1 c_x2 c_x3 c_x4 M = true) : wX_renew_83 post x1 x2 x3 x4 f0_made a1 a2 a3 a4 a5 a6 a7 a8 a9 a10 a11 a12 a13 a14 a15 a16 a17 a18 a19 a20 a21 a22 := by
  unfold dx_x_renew_83 at h
  refine dp_eq hab v_x4 (dv_n 0 (by decide)) h (fun h => ?_) (fun h => ?_)
  · exact hk _ _ hR h
  · refine dp_in (by decide) v_x3 h (fun l1 h => ?_)
    refine dp_fs (dr_g3 hR v_x3 l1) h (fun c2 v2 h => ?_)
    refine ds_px_putIntoView hab ?_ v_x1 v_x2 v2 hR h
    intro M3 u3 R3 h
    obtain ⟨f0_made_10, am971_13, am972_16, am973_19, am974_22, am975_25, am976_28, am977_31, am978_34, am979_37, am9710_40, am9711_43, am9712_46, am9713_49, am9714_52, am9715_55, am9716_58, am9717_61, am9718_64, am9719_67, am9720_70, am9721_73, am9722_76⟩ := u3
    exact hk _ _ R3 h
noncomputable def dx_x_renew_72 (k : Nat → Bool) (c_x1 c_x2 c_x3 c_x4 c_x5 : Nat) (M : Nat) : Bool := dx_eq c_x5 0 (dx_x_renew_83 k c_x1 c_x2 c_x3 c_x4 M) (dx_px_takeFromView (fun M1 => dx_x_renew_83 k c_x1 c_x2 c_x3 c_x4 M1) c_x1 c_x2 M)
theorem ds_x_renew_72 {a b : Int32} (hab : dx_ab a b) {post : St2 → Prop} {x1 x2 x3 x4 x5 : Int32} {f0_made : Int32} {a1 a2 a3 a4 a5 a6 a7 a8 a9 a10 a11 a12 a13 a14 a15 a16 a17 a18 a19 a20 a21 a22 : Nat → Int32} {k : Nat → Bool} {c_x1 c_x2 c_x3 c_x4 c_x5 : Nat} {M : Nat} (hk : ∀ (M : Nat) (u : St2), dx_R a b M u → k M = true → post u) (v_x1 : dx_v a b c_x1 x1) (v_x2 : dx_v a b c_x2 x2) (v_x3 : dx_v a b c_x3 x3) (v_x4 : dx_v a b c_x4 x4) (v_x5 : dx_v a b c_x5 x5) (hR : dx_R a b M (f0_made, a1, a2, a3, a4, a5, a6, a7, a8, a9, a10, a11, a12, a13, a14, a15, a16, a17, a18, a19, a20, a21, a22)) (h : dx_x_renew_72 k c_x1 c_x2 c_x3 c_x4 c_x5 M = true) : wX_renew_72 post x1 x2 x3 x4 x5 f0_made a1 a2 a3 a4 a5 a6 a7 a8 a9 a10 a11 a12 a13 a14 a15 a16 a17 a18 a19 a20 a21 a22 := by
  unfold dx_x_renew_72 at h
  refine dp_eq hab v_x5 (dv_n 0 (by decide)) h (fun h => ?_) (fun h => ?_)
  · exact ds_x_renew_83 hab hk v_x1 v_x2 v_x3 v_x4 hR h
  · refine ds_px_takeFromView hab ?_ v_x1 v_x2 hR h
    intro M1 u1 R1 h
    obtain ⟨f0_made_78, am801_81, am802_84, am803_87, am804_90, am805_93, am806_96, am807_99, am808_102, am809_105, am8010_108, am8011_111, am8012_114, am8013_117, am8014_120, am8015_123, am8016_126, am8017_129, am8018_132, am8019_135, am8020_138, am8021_141, am8022_144⟩ := u1
    exact ds_x_renew_83 hab hk v_x1 v_x2 v_x3 v_x4 R1 h
noncomputable def dx_x_renew_26 (k : Nat → Bool) (c_x1 c_x2 c_x3 c_z0 : Nat) (M : Nat) : Bool := dx_fs (dx_add (dx_mul 8 c_x1) c_x2) (fun c1 => dx_in c1 24 (dx_fs (dx_ce M (Nat.add 3296 c1)) (fun c_x5_4 => dx_eq c_x5_4 0 (dx_x_renew_72 k c_x1 c_x2 c_x3 c_z0 c_x5_4 M) (dx_eq c_z0 0 (dx_x_renew_72 k c_x1 c_x2 c_x3 c_z0 c_x5_4 M) (dx_in c_x3 80 (dx_fs (dx_ce M (Nat.add 3320 c1)) (fun c4 => dx_fs (dx_ce M (Nat.add 161 c_x3)) (fun c5 => dx_eq c4 c5 (k M) (dx_x_renew_72 k c_x1 c_x2 c_x3 c_z0 c_x5_4 M)))))))))
theorem ds_x_renew_26 {a b : Int32} (hab : dx_ab a b) {post : St2 → Prop} {x1 x2 x3 z0 : Int32} {f0_made : Int32} {a1 a2 a3 a4 a5 a6 a7 a8 a9 a10 a11 a12 a13 a14 a15 a16 a17 a18 a19 a20 a21 a22 : Nat → Int32} {k : Nat → Bool} {c_x1 c_x2 c_x3 c_z0 : Nat} {M : Nat} (hk : ∀ (M : Nat) (u : St2), dx_R a b M u → k M = true → post u) (v_x1 : dx_v a b c_x1 x1) (v_x2 : dx_v a b c_x2 x2) (v_x3 : dx_v a b c_x3 x3) (v_z0 : dx_v a b c_z0 z0) (hR : dx_R a b M (f0_made, a1, a2, a3, a4, a5, a6, a7, a8, a9, a10, a11, a12, a13, a14, a15, a16, a17, a18, a19, a20, a21, a22)) (h : dx_x_renew_26 k c_x1 c_x2 c_x3 c_z0 M = true) : wX_renew_26 post x1 x2 x3 z0 f0_made a1 a2 a3 a4 a5 a6 a7 a8 a9 a10 a11 a12 a13 a14 a15 a16 a17 a18 a19 a20 a21 a22 := by
  unfold dx_x_renew_26 at h
  refine dp_fs (dv_add (dv_mul (dv_n 8 (by decide)) v_x1) v_x2) h (fun c1 v1 h => ?_)
  refine dp_in (by decide) v1 h (fun l2 h => ?_)
  intro x5_4 e_x5_4
  refine dp_fs (dv_of e_x5_4 (dr_g19 hR v1 l2)) h (fun c_x5_4 v_x5_4 h => ?_)
  refine dp_eq hab v_x5_4 (dv_n 0 (by decide)) h (fun h => ?_) (fun h => ?_)
  · exact ds_x_renew_72 hab hk v_x1 v_x2 v_x3 v_z0 v_x5_4 hR h
  · refine dp_eq hab v_z0 (dv_n 0 (by decide)) h (fun h => ?_) (fun h => ?_)
    · exact ds_x_renew_72 hab hk v_x1 v_x2 v_x3 v_z0 v_x5_4 hR h
    · refine ⟨dv_in v1 l2 (by decide), ?_⟩
      refine dp_in (by decide) v_x3 h (fun l3 h => ?_)
      refine dp_fs (dr_g20 hR v1 l2) h (fun c4 v4 h => ?_)
      refine dp_fs (dr_g3 hR v_x3 l3) h (fun c5 v5 h => ?_)
      refine dp_eq hab v4 v5 h (fun h => ?_) (fun h => ?_)
      · exact hk _ _ hR h
      · exact ds_x_renew_72 hab hk v_x1 v_x2 v_x3 v_z0 v_x5_4 hR h
noncomputable def dx_x_renew_25 (k : Nat → Bool) (c_x1 c_x2 c_x3 : Nat) (M : Nat) : Bool := dx_x_renew_26 k c_x1 c_x2 c_x3 0 M
theorem ds_x_renew_25 {a b : Int32} (hab : dx_ab a b) {post : St2 → Prop} {x1 x2 x3 : Int32} {f0_made : Int32} {a1 a2 a3 a4 a5 a6 a7 a8 a9 a10 a11 a12 a13 a14 a15 a16 a17 a18 a19 a20 a21 a22 : Nat → Int32} {k : Nat → Bool} {c_x1 c_x2 c_x3 : Nat} {M : Nat} (hk : ∀ (M : Nat) (u : St2), dx_R a b M u → k M = true → post u) (v_x1 : dx_v a b c_x1 x1) (v_x2 : dx_v a b c_x2 x2) (v_x3 : dx_v a b c_x3 x3) (hR : dx_R a b M (f0_made, a1, a2, a3, a4, a5, a6, a7, a8, a9, a10, a11, a12, a13, a14, a15, a16, a17, a18, a19, a20, a21, a22)) (h : dx_x_renew_25 k c_x1 c_x2 c_x3 M = true) : wX_renew_25 post x1 x2 x3 f0_made a1 a2 a3 a4 a5 a6 a7 a8 a9 a10 a11 a12 a13 a14 a15 a16 a17 a18 a19 a20 a21 a22 := by
  unfold dx_x_renew_25 at h
  unfold wX_renew_25
  exact ds_x_renew_26 hab hk v_x1 v_x2 v_x3 (dv_n 0 (by decide)) hR h
noncomputable def dx_px_renew (k : Nat → Bool) (c_p0 c_p1 : Nat) (M : Nat) : Bool := dx_px_findWinner (fun c_r_1 => dx_eq c_r_1 8192 (dx_x_renew_25 k c_p0 c_p1 c_r_1 M) (dx_in c_r_1 80 (dx_fs (dx_ce M (Nat.add 241 c_r_1)) (fun c2 => dx_eq c2 0 (dx_x_renew_26 k c_p0 c_p1 c_r_1 1 M) (dx_x_renew_25 k c_p0 c_p1 c_r_1 M))))) c_p0 c_p1 M
theorem ds_px_renew {a b : Int32} (hab : dx_ab a b) {post : St2 → Prop} {p0 p1 : Int32} {u : St2} {k : Nat → Bool} {c_p0 c_p1 : Nat} {M : Nat} (hk : ∀ (M : Nat) (u : St2), dx_R a b M u → k M = true → post u) (v_p0 : dx_v a b c_p0 p0) (v_p1 : dx_v a b c_p1 p1) (hR : dx_R a b M u) (h : dx_px_renew k c_p0 c_p1 M = true) : wpX_renew post u p0 p1 := by
  unfold dx_px_renew at h
  obtain ⟨f0_made, a1, a2, a3, a4, a5, a6, a7, a8, a9, a10, a11, a12, a13, a14, a15, a16, a17, a18, a19, a20, a21, a22⟩ := u
  unfold wpX_renew
  refine ds_px_findWinner hab ?_ v_p0 v_p1 hR h
  intro c_r_1 r_1 v_r_1 h
  refine dp_eq hab v_r_1 dv_m1 h (fun h => ?_) (fun h => ?_)
  · exact ds_x_renew_25 hab hk v_p0 v_p1 v_r_1 hR h
  · refine dp_in (by decide) v_r_1 h (fun l1 h => ?_)
    refine dp_fs (dr_g4 hR v_r_1 l1) h (fun c2 v2 h => ?_)
    refine dp_eq hab v2 (dv_n 0 (by decide)) h (fun h => ?_) (fun h => ?_)
    · exact ds_x_renew_26 hab hk v_p0 v_p1 v_r_1 (dv_n 1 (by decide)) hR h
    · exact ds_x_renew_25 hab hk v_p0 v_p1 v_r_1 hR h
noncomputable def dx_x_makeRevision_122 (k : Nat → Nat → Bool) (c_x5 : Nat) (M : Nat) : Bool := dx_fs (dx_add (dx_ce M 0) 1) (fun c_f_22 => dx_st M 0 c_f_22 (fun M1 => k c_x5 M1))
theorem ds_x_makeRevision_122 {a b : Int32} (hab : dx_ab a b) {post : Int32 → St2 → Prop} {x5 : Int32} {f0_made : Int32} {a1 a2 a3 a4 a5 a6 a7 a8 a9 a10 a11 a12 a13 a14 a15 a16 a17 a18 a19 a20 a21 a22 : Nat → Int32} {k : Nat → Nat → Bool} {c_x5 : Nat} {M : Nat} (hk : ∀ (c : Nat) (r : Int32) (M : Nat) (u : St2), dx_v a b c r → dx_R a b M u → k c M = true → post r u) (v_x5 : dx_v a b c_x5 x5) (hR : dx_R a b M (f0_made, a1, a2, a3, a4, a5, a6, a7, a8, a9, a10, a11, a12, a13, a14, a15, a16, a17, a18, a19, a20, a21, a22)) (h : dx_x_makeRevision_122 k c_x5 M = true) : wX_makeRevision_122 post x5 f0_made a1 a2 a3 a4 a5 a6 a7 a8 a9 a10 a11 a12 a13 a14 a15 a16 a17 a18 a19 a20 a21 a22 := by
  unfold dx_x_makeRevision_122 at h
  intro f_22 e_f_22
  refine dp_fs (dv_of e_f_22 (dv_add (dr_g0 hR) (dv_n 1 (by decide)))) h (fun c_f_22 v_f_22 h => ?_)
  refine dp_st h (fun M1 m1 t1 h => ?_)
  have R1 := dr_u0 hR v_f_22 t1 m1
  exact hk _ _ _ _ v_x5 R1 h
noncomputable def dx_x_makeRevision_97 (k : Nat → Nat → Bool) (c_x1 c_x2 c_x5 c_z0 c_z1 : Nat) (M : Nat) : Bool := dx_in c_z1 80 (dx_st M (Nat.add 481 c_z1) c_z0 (fun M2 => dx_eq c_x2 8192 (dx_in c_x1 8 (dx_st M2 (Nat.add 561 c_x1) c_x5 (fun M4 => dx_x_makeRevision_122 k c_x5 M4))) (dx_in c_x2 80 (dx_st M2 (Nat.add 401 c_x2) c_x5 (fun M6 => dx_x_makeRevision_122 k c_x5 M6)))))
theorem ds_x_makeRevision_97 {a b : Int32} (hab : dx_ab a b) {post : Int32 → St2 → Prop} {x1 x2 x5 z0 z1 : Int32} {f0_made : Int32} {a1 a2 a3 a4 a5 a6 a7 a8 a9 a10 a11 a12 a13 a14 a15 a16 a17 a18 a19 a20 a21 a22 : Nat → Int32} {k : Nat → Nat → Bool} {c_x1 c_x2 c_x5 c_z0 c_z1 : Nat} {M : Nat} (hk : ∀ (c : Nat) (r : Int32) (M : Nat) (u : St2), dx_v a b c r → dx_R a b M u → k c M = true → post r u) (v_x1 : dx_v a b c_x1 x1) (v_x2 : dx_v a b c_x2 x2) (v_x5 : dx_v a b c_x5 x5) (v_z0 : dx_v a b c_z0 z0) (v_z1 : dx_v a b c_z1 z1) (hR : dx_R a b M (f0_made, a1, a2, a3, a4, a5, a6, a7, a8, a9, a10, a11, a12, a13, a14, a15, a16, a17, a18, a19, a20, a21, a22)) (h : dx_x_makeRevision_97 k c_x1 c_x2 c_x5 c_z0 c_z1 M = true) : wX_makeRevision_97 post x1 x2 x5 z0 z1 f0_made a1 a2 a3 a4 a5 a6 a7 a8 a9 a10 a11 a12 a13 a14 a15 a16 a17 a18 a19 a20 a21 a22 := by
  unfold dx_x_makeRevision_97 at h
  refine dp_in (by decide) v_z1 h (fun l1 h => ?_)
  intro a7_18 e_a7_18
  refine dp_st h (fun M2 m2 t2 h => ?_)
  have R2 := dr_u7 hR v_z1 l1 v_z0 t2 m2 e_a7_18
  refine dp_eq hab v_x2 dv_m1 h (fun h => ?_) (fun h => ?_)
  · refine dp_in (by decide) v_x1 h (fun l3 h => ?_)
    intro a8_24 e_a8_24
    refine dp_st h (fun M4 m4 t4 h => ?_)
    have R4 := dr_u8 R2 v_x1 l3 v_x5 t4 m4 e_a8_24
    exact ds_x_makeRevision_122 hab hk v_x5 R4 h
  · refine dp_in (by decide) v_x2 h (fun l5 h => ?_)
    intro a6_21 e_a6_21
    refine dp_st h (fun M6 m6 t6 h => ?_)
    have R6 := dr_u6 R2 v_x2 l5 v_x5 t6 m6 e_a6_21
    exact ds_x_makeRevision_122 hab hk v_x5 R6 h
noncomputable def dx_x_makeRevision_62 (k : Nat → Nat → Bool) (c_x1 c_x2 c_x5 c_z0 c_z1 : Nat) (M : Nat) : Bool := dx_in c_z1 80 (dx_st M (Nat.add 321 c_z1) c_z0 (fun M2 => dx_in c_x5 80 (dx_st M2 (Nat.add 401 c_x5) 8192 (fun M4 => dx_eq c_x2 8192 (dx_in c_x1 8 (dx_fs (dx_ce M4 (Nat.add 561 c_x1)) (fun c6 => dx_x_makeRevision_97 k c_x1 c_x2 c_x5 c6 c_x5 M4))) (dx_in c_x2 80 (dx_fs (dx_ce M4 (Nat.add 401 c_x2)) (fun c8 => dx_x_makeRevision_97 k c_x1 c_x2 c_x5 c8 c_x5 M4)))))))
theorem ds_x_makeRevision_62 {a b : Int32} (hab : dx_ab a b) {post : Int32 → St2 → Prop} {x1 x2 x5 z0 z1 : Int32} {f0_made : Int32} {a1 a2 a3 a4 a5 a6 a7 a8 a9 a10 a11 a12 a13 a14 a15 a16 a17 a18 a19 a20 a21 a22 : Nat → Int32} {k : Nat → Nat → Bool} {c_x1 c_x2 c_x5 c_z0 c_z1 : Nat} {M : Nat} (hk : ∀ (c : Nat) (r : Int32) (M : Nat) (u : St2), dx_v a b c r → dx_R a b M u → k c M = true → post r u) (v_x1 : dx_v a b c_x1 x1) (v_x2 : dx_v a b c_x2 x2) (v_x5 : dx_v a b c_x5 x5) (v_z0 : dx_v a b c_z0 z0) (v_z1 : dx_v a b c_z1 z1) (hR : dx_R a b M (f0_made, a1, a2, a3, a4, a5, a6, a7, a8, a9, a10, a11, a12, a13, a14, a15, a16, a17, a18, a19, a20, a21, a22)) (h : dx_x_makeRevision_62 k c_x1 c_x2 c_x5 c_z0 c_z1 M = true) : wX_makeRevision_62 post x1 x2 x5 z0 z1 f0_made a1 a2 a3 a4 a5 a6 a7 a8 a9 a10 a11 a12 a13 a14 a15 a16 a17 a18 a19 a20 a21 a22 := by
  unfold dx_x_makeRevision_62 at h
  refine dp_in (by decide) v_z1 h (fun l1 h => ?_)
  intro a5_12 e_a5_12
  refine dp_st h (fun M2 m2 t2 h => ?_)
  have R2 := dr_u5 hR v_z1 l1 v_z0 t2 m2 e_a5_12
  refine dp_in (by decide) v_x5 h (fun l3 h => ?_)
  intro a6_14 e_a6_14
  refine dp_st h (fun M4 m4 t4 h => ?_)
  have R4 := dr_u6 R2 v_x5 l3 dv_m1 t4 m4 e_a6_14
  refine dp_eq hab v_x2 dv_m1 h (fun h => ?_) (fun h => ?_)
  · refine dp_in (by decide) v_x1 h (fun l5 h => ?_)
    refine dp_fs (dr_g8 R4 v_x1 l5) h (fun c6 v6 h => ?_)
    exact ds_x_makeRevision_97 hab hk v_x1 v_x2 v_x5 v6 v_x5 R4 h
  · refine dp_in (by decide) v_x2 h (fun l7 h => ?_)
    refine dp_fs (dr_g6 R4 v_x2 l7) h (fun c8 v8 h => ?_)
    exact ds_x_makeRevision_97 hab hk v_x1 v_x2 v_x5 v8 v_x5 R4 h
noncomputable def dx_px_makeRevision (k : Nat → Nat → Bool) (c_p0 c_p1 c_p2 c_p3 : Nat) (M : Nat) : Bool := dx_fs (dx_ce M 0) (fun c1 => dx_in c1 80 (dx_st M (Nat.add 1 c1) c_p0 (fun M3 => dx_st M3 (Nat.add 81 c1) c_p1 (fun M4 => dx_st M4 (Nat.add 161 c1) c_p2 (fun M5 => dx_fs (dx_nb c_p3) (fun c6 => dx_st M5 (Nat.add 241 c1) c6 (fun M7 => dx_eq c_p1 8192 (dx_x_makeRevision_62 k c_p0 c_p1 c1 1 c1 M7) (dx_in c_p1 80 (dx_fs (dx_add (dx_ce M7 (Nat.add 321 c_p1)) 1) (fun c9 => dx_x_makeRevision_62 k c_p0 c_p1 c1 c9 c1 M7))))))))))
theorem ds_px_makeRevision {a b : Int32} (hab : dx_ab a b) {post : Int32 → St2 → Prop} {p0 p1 p2 p3 : Int32} {u : St2} {k : Nat → Nat → Bool} {c_p0 c_p1 c_p2 c_p3 : Nat} {M : Nat} (hk : ∀ (c : Nat) (r : Int32) (M : Nat) (u : St2), dx_v a b c r → dx_R a b M u → k c M = true → post r u) (v_p0 : dx_v a b c_p0 p0) (v_p1 : dx_v a b c_p1 p1) (v_p2 : dx_v a b c_p2 p2) (v_p3 : dx_v a b c_p3 p3) (hR : dx_R a b M u) (h : dx_px_makeRevision k c_p0 c_p1 c_p2 c_p3 M = true) : wpX_makeRevision post u p0 p1 p2 p3 := by
  unfold dx_px_makeRevision at h
  obtain ⟨f0_made, a1, a2, a3, a4, a5, a6, a7, a8, a9, a10, a11, a12, a13, a14, a15, a16, a17, a18, a19, a20, a21, a22⟩ := u
  refine dp_fs (dr_g0 hR) h (fun c1 v1 h => ?_)
  refine dp_in (by decide) v1 h (fun l2 h => ?_)
  intro a1_2 e_a1_2
  refine dp_st h (fun M3 m3 t3 h => ?_)
  have R3 := dr_u1 hR v1 l2 v_p0 t3 m3 e_a1_2
  refine ⟨dv_in v1 l2 (by decide), ?_⟩
  intro a2_4 e_a2_4
  refine dp_st h (fun M4 m4 t4 h => ?_)
  have R4 := dr_u2 R3 v1 l2 v_p1 t4 m4 e_a2_4
  refine ⟨dv_in v1 l2 (by decide), ?_⟩
  intro a3_6 e_a3_6
  refine dp_st h (fun M5 m5 t5 h => ?_)
  have R5 := dr_u3 R4 v1 l2 v_p2 t5 m5 e_a3_6
  refine ⟨dv_in v1 l2 (by decide), ?_⟩
  refine dp_fs (dv_nb v_p3) h (fun c6 v6 h => ?_)
  intro a4_8 e_a4_8
  refine dp_st h (fun M7 m7 t7 h => ?_)
  have R7 := dr_u4 R5 v1 l2 v6 t7 m7 e_a4_8
  refine dp_eq hab v_p1 dv_m1 h (fun h => ?_) (fun h => ?_)
  · exact ds_x_makeRevision_62 hab hk v_p0 v_p1 v1 (dv_n 1 (by decide)) v1 R7 h
  · refine dp_in (by decide) v_p1 h (fun l8 h => ?_)
    refine dp_fs (dv_add (dr_g5 R7 v_p1 l8) (dv_n 1 (by decide))) h (fun c9 v9 h => ?_)
    exact ds_x_makeRevision_62 hab hk v_p0 v_p1 v1 v9 v1 R7 h
noncomputable def dx_x_change_48 (k : Nat → Nat → Bool) (c_x1 c_x2 c_x6 : Nat) (M : Nat) : Bool := dx_fs (dx_add (dx_mul 80 c_x1) c_x6) (fun c1 => dx_in c1 240 (dx_fs (dx_ce M (Nat.add 569 c1)) (fun c3 => dx_eq c3 0 (dx_px_learn (fun M4 => dx_st M4 (Nat.add 1049 c1) 1 (fun M5 => dx_px_stampNow (fun M6 => dx_px_renew (fun M7 => k c_x6 M7) c_x1 c_x2 M6) c_x1 c_x2 M5)) c_x1 c_x6 M) (k c_x6 M))))
theorem ds_x_change_48 {a b : Int32} (hab : dx_ab a b) {post : Int32 → St2 → Prop} {x1 x2 x6 : Int32} {f0_made : Int32} {a1 a2 a3 a4 a5 a6 a7 a8 a9 a10 a11 a12 a13 a14 a15 a16 a17 a18 a19 a20 a21 a22 : Nat → Int32} {k : Nat → Nat → Bool} {c_x1 c_x2 c_x6 : Nat} {M : Nat} (hk : ∀ (c : Nat) (r : Int32) (M : Nat) (u : St2), dx_v a b c r → dx_R a b M u → k c M = true → post r u) (v_x1 : dx_v a b c_x1 x1) (v_x2 : dx_v a b c_x2 x2) (v_x6 : dx_v a b c_x6 x6) (hR : dx_R a b M (f0_made, a1, a2, a3, a4, a5, a6, a7, a8, a9, a10, a11, a12, a13, a14, a15, a16, a17, a18, a19, a20, a21, a22)) (h : dx_x_change_48 k c_x1 c_x2 c_x6 M = true) : wX_change_48 post x1 x2 x6 f0_made a1 a2 a3 a4 a5 a6 a7 a8 a9 a10 a11 a12 a13 a14 a15 a16 a17 a18 a19 a20 a21 a22 := by
  unfold dx_x_change_48 at h
  refine dp_fs (dv_add (dv_mul (dv_n 80 (by decide)) v_x1) v_x6) h (fun c1 v1 h => ?_)
  refine dp_in (by decide) v1 h (fun l2 h => ?_)
  refine dp_fs (dr_g9 hR v1 l2) h (fun c3 v3 h => ?_)
  refine dp_eq hab v3 (dv_n 0 (by decide)) h (fun h => ?_) (fun h => ?_)
  · refine ds_px_learn hab ?_ v_x1 v_x6 hR h
    intro M4 u4 R4 h
    obtain ⟨f0_made_7, am671_10, am672_13, am673_16, am674_19, am675_22, am676_25, am677_28, am678_31, am679_34, am6710_37, am6711_40, am6712_43, am6713_46, am6714_49, am6715_52, am6716_55, am6717_58, am6718_61, am6719_64, am6720_67, am6721_70, am6722_73⟩ := u4
    refine ⟨dv_in v1 l2 (by decide), ?_⟩
    intro am6711_75 e_am6711_75
    refine dp_st h (fun M5 m5 t5 h => ?_)
    have R5 := dr_u11 R4 v1 l2 (dv_n 1 (by decide)) t5 m5 e_am6711_75
    refine ds_px_stampNow hab ?_ v_x1 v_x2 R5 h
    intro M6 u6 R6 h
    obtain ⟨f0_made_77, am861_80, am862_83, am863_86, am864_89, am865_92, am866_95, am867_98, am868_101, am869_104, am8610_107, am8611_110, am8612_113, am8613_116, am8614_119, am8615_122, am8616_125, am8617_128, am8618_131, am8619_134, am8620_137, am8621_140, am8622_143⟩ := u6
    refine ds_px_renew hab ?_ v_x1 v_x2 R6 h
    intro M7 u7 R7 h
    obtain ⟨f0_made_145, am921_148, am922_151, am923_154, am924_157, am925_160, am926_163, am927_166, am928_169, am929_172, am9210_175, am9211_178, am9212_181, am9213_184, am9214_187, am9215_190, am9216_193, am9217_196, am9218_199, am9219_202, am9220_205, am9221_208, am9222_211⟩ := u7
    exact hk _ _ _ _ v_x6 R7 h
  · exact hk _ _ _ _ v_x6 hR h
noncomputable def dx_x_change_30 (k : Nat → Nat → Bool) (c_x1 c_x2 c_x3 c_x4 c_x5 c_x6 : Nat) (M : Nat) : Bool := dx_eq c_x6 8192 (dx_px_makeRevision (fun c_r_212 M1 => dx_x_change_48 k c_x1 c_x2 c_r_212 M1) c_x2 c_x3 c_x4 c_x5 M) (dx_x_change_48 k c_x1 c_x2 c_x6 M)
theorem ds_x_change_30 {a b : Int32} (hab : dx_ab a b) {post : Int32 → St2 → Prop} {x1 x2 x3 x4 x5 x6 : Int32} {f0_made : Int32} {a1 a2 a3 a4 a5 a6 a7 a8 a9 a10 a11 a12 a13 a14 a15 a16 a17 a18 a19 a20 a21 a22 : Nat → Int32} {k : Nat → Nat → Bool} {c_x1 c_x2 c_x3 c_x4 c_x5 c_x6 : Nat} {M : Nat} (hk : ∀ (c : Nat) (r : Int32) (M : Nat) (u : St2), dx_v a b c r → dx_R a b M u → k c M = true → post r u) (v_x1 : dx_v a b c_x1 x1) (v_x2 : dx_v a b c_x2 x2) (v_x3 : dx_v a b c_x3 x3) (v_x4 : dx_v a b c_x4 x4) (v_x5 : dx_v a b c_x5 x5) (v_x6 : dx_v a b c_x6 x6) (hR : dx_R a b M (f0_made, a1, a2, a3, a4, a5, a6, a7, a8, a9, a10, a11, a12, a13, a14, a15, a16, a17, a18, a19, a20, a21, a22)) (h : dx_x_change_30 k c_x1 c_x2 c_x3 c_x4 c_x5 c_x6 M = true) : wX_change_30 post x1 x2 x3 x4 x5 x6 f0_made a1 a2 a3 a4 a5 a6 a7 a8 a9 a10 a11 a12 a13 a14 a15 a16 a17 a18 a19 a20 a21 a22 := by
  unfold dx_x_change_30 at h
  refine dp_eq hab v_x6 dv_m1 h (fun h => ?_) (fun h => ?_)
  · refine ds_px_makeRevision hab ?_ v_x2 v_x3 v_x4 v_x5 hR h
    intro c_r_212 r_212 M1 u1 v_r_212 R1 h
    obtain ⟨f0_made_213, am431_216, am432_219, am433_222, am434_225, am435_228, am436_231, am437_234, am438_237, am439_240, am4310_243, am4311_246, am4312_249, am4313_252, am4314_255, am4315_258, am4316_261, am4317_264, am4318_267, am4319_270, am4320_273, am4321_276, am4322_279⟩ := u1
    exact ds_x_change_48 hab hk v_x1 v_x2 v_r_212 R1 h
  · exact ds_x_change_48 hab hk v_x1 v_x2 v_x6 hR h
noncomputable def dx_px_change (k : Nat → Nat → Bool) (c_p0 c_p1 c_p2 c_p3 c_p4 : Nat) (M : Nat) : Bool := dx_px_findRevision (fun c_r_1 => dx_eq c_r_1 8192 (dx_fs (dx_ce M 0) (fun c1 => dx_eq c1 80 (k 8194 M) (dx_x_change_30 k c_p0 c_p1 c_p2 c_p3 c_p4 c_r_1 M))) (dx_x_change_30 k c_p0 c_p1 c_p2 c_p3 c_p4 c_r_1 M)) c_p1 c_p2 c_p3 c_p4 M
theorem ds_px_change {a b : Int32} (hab : dx_ab a b) {post : Int32 → St2 → Prop} {p0 p1 p2 p3 p4 : Int32} {u : St2} {k : Nat → Nat → Bool} {c_p0 c_p1 c_p2 c_p3 c_p4 : Nat} {M : Nat} (hk : ∀ (c : Nat) (r : Int32) (M : Nat) (u : St2), dx_v a b c r → dx_R a b M u → k c M = true → post r u) (v_p0 : dx_v a b c_p0 p0) (v_p1 : dx_v a b c_p1 p1) (v_p2 : dx_v a b c_p2 p2) (v_p3 : dx_v a b c_p3 p3) (v_p4 : dx_v a b c_p4 p4) (hR : dx_R a b M u) (h : dx_px_change k c_p0 c_p1 c_p2 c_p3 c_p4 M = true) : wpX_change post u p0 p1 p2 p3 p4 := by
  unfold dx_px_change at h
  obtain ⟨f0_made, a1, a2, a3, a4, a5, a6, a7, a8, a9, a10, a11, a12, a13, a14, a15, a16, a17, a18, a19, a20, a21, a22⟩ := u
  unfold wpX_change
  refine ds_px_findRevision hab ?_ v_p1 v_p2 v_p3 v_p4 hR h
  intro c_r_1 r_1 v_r_1 h
  refine dp_eq hab v_r_1 dv_m1 h (fun h => ?_) (fun h => ?_)
  · refine dp_fs (dr_g0 hR) h (fun c1 v1 h => ?_)
    refine dp_eq hab v1 (dv_n 80 (by decide)) h (fun h => ?_) (fun h => ?_)
    · exact hk _ _ _ _ dv_m1000000002 hR h
    · exact ds_x_change_30 hab hk v_p0 v_p1 v_p2 v_p3 v_p4 v_r_1 hR h
  · exact ds_x_change_30 hab hk v_p0 v_p1 v_p2 v_p3 v_p4 v_r_1 hR h
noncomputable def dx_px_edit (k : Nat → Nat → Bool) (c_p0 c_p1 c_p2 : Nat) (M : Nat) : Bool := dx_px_badStore (fun c_r_1 => dx_eq c_r_1 0 (dx_px_badDocument (fun c_r_3 => dx_eq c_r_3 0 (dx_px_findWinner (fun c_r_5 => dx_px_change (fun c_r_6 M1 => k c_r_6 M1) c_p0 c_p1 c_r_5 c_p2 0 M) c_p0 c_p1 M) (k 8193 M)) c_p1 M) (k 8193 M)) c_p0 M
theorem ds_px_edit {a b : Int32} (hab : dx_ab a b) {post : Int32 → St2 → Prop} {p0 p1 p2 : Int32} {u : St2} {k : Nat → Nat → Bool} {c_p0 c_p1 c_p2 : Nat} {M : Nat} (hk : ∀ (c : Nat) (r : Int32) (M : Nat) (u : St2), dx_v a b c r → dx_R a b M u → k c M = true → post r u) (v_p0 : dx_v a b c_p0 p0) (v_p1 : dx_v a b c_p1 p1) (v_p2 : dx_v a b c_p2 p2) (hR : dx_R a b M u) (h : dx_px_edit k c_p0 c_p1 c_p2 M = true) : wpX_edit post u p0 p1 p2 := by
  unfold dx_px_edit at h
  obtain ⟨f0_made, a1, a2, a3, a4, a5, a6, a7, a8, a9, a10, a11, a12, a13, a14, a15, a16, a17, a18, a19, a20, a21, a22⟩ := u
  unfold wpX_edit
  refine ds_px_badStore hab ?_ v_p0 hR h
  intro c_r_1 r_1 v_r_1 h
  refine dp_eq hab v_r_1 (dv_n 0 (by decide)) h (fun h => ?_) (fun h => ?_)
  · refine ds_px_badDocument hab ?_ v_p1 hR h
    intro c_r_3 r_3 v_r_3 h
    refine dp_eq hab v_r_3 (dv_n 0 (by decide)) h (fun h => ?_) (fun h => ?_)
    · refine ds_px_findWinner hab ?_ v_p0 v_p1 hR h
      intro c_r_5 r_5 v_r_5 h
      refine ds_px_change hab ?_ v_p0 v_p1 v_r_5 v_p2 (dv_n 0 (by decide)) hR h
      intro c_r_6 r_6 M1 u1 v_r_6 R1 h
      obtain ⟨f0_made_7, am341_10, am342_13, am343_16, am344_19, am345_22, am346_25, am347_28, am348_31, am349_34, am3410_37, am3411_40, am3412_43, am3413_46, am3414_49, am3415_52, am3416_55, am3417_58, am3418_61, am3419_64, am3420_67, am3421_70, am3422_73⟩ := u1
      exact hk _ _ _ _ v_r_6 R1 h
    · exact hk _ _ _ _ dv_m1000000001 hR h
  · exact hk _ _ _ _ dv_m1000000001 hR h
end
section
noncomputable def dx_x_purge_128_b (k : Nat → Nat → Bool) (c_x1 c_x3 : Nat) (ih : Nat → Nat → Bool) (c_x4 M : Nat) : Bool := dx_le 3 c_x4 (k c_x3 M) (dx_fs (dx_add (dx_mul 3 c_x4) c_x1) (fun c1 => dx_in c1 9 (dx_st M (Nat.add 3260 c1) 0 (fun M3 => dx_fs (dx_add c_x4 1) (fun c_x4_82 => ih c_x4_82 M3)))))
noncomputable def dx_x_purge_128 (k : Nat → Nat → Bool) (c_x1 c_x3 : Nat) (n : Nat) : Nat → Nat → Bool := Nat.rec (motive := fun _ => Nat → Nat → Bool) (fun _ _ => false) (fun _ ih => dx_x_purge_128_b k c_x1 c_x3 ih) n
theorem ds_x_purge_128 {a b : Int32} (hab : dx_ab a b) {post : Int32 → St2 → Prop} {x1 x3 : Int32} {f0_made : Int32} {k : Nat → Nat → Bool} {c_x1 c_x3 : Nat} (hk : ∀ (c : Nat) (r : Int32) (M : Nat) (u : St2), dx_v a b c r → dx_R a b M u → k c M = true → post r u) (v_x1 : dx_v a b c_x1 x1) (v_x3 : dx_v a b c_x3 x3) : ∀ (n : Nat) {x4 : Int32} {am1221 am1222 am1223 am1224 am1225 am1226 am1227 am1228 am1229 am12210 am12211 am12212 am12213 am12214 am12215 am12216 am12217 am12218 am12219 am12220 am12221 am12222 : Nat → Int32} {c_x4 : Nat} {M : Nat}, dx_v a b c_x4 x4 → dx_R a b M (f0_made, am1221, am1222, am1223, am1224, am1225, am1226, am1227, am1228, am1229, am12210, am12211, am12212, am12213, am12214, am12215, am12216, am12217, am12218, am12219, am12220, am12221, am12222) → dx_x_purge_128 k c_x1 c_x3 n c_x4 M = true → wX_purge_128 post x1 x3 f0_made n x4 am1221 am1222 am1223 am1224 am1225 am1226 am1227 am1228 am1229 am12210 am12211 am12212 am12213 am12214 am12215 am12216 am12217 am12218 am12219 am12220 am12221 am12222 := by
  intro n
  induction n with
  | zero =>
    intro x4 am1221 am1222 am1223 am1224 am1225 am1226 am1227 am1228 am1229 am12210 am12211 am12212 am12213 am12214 am12215 am12216 am12217 am12218 am12219 am12220 am12221 am12222 c_x4 M v_x4 hR h
    exact absurd (show false = true from h) (by decide)
  | succ n ih =>
    intro x4 am1221 am1222 am1223 am1224 am1225 am1226 am1227 am1228 am1229 am12210 am12211 am12212 am12213 am12214 am12215 am12216 am12217 am12218 am12219 am12220 am12221 am12222 c_x4 M v_x4 hR h
    replace h : dx_x_purge_128_b k c_x1 c_x3 (dx_x_purge_128 k c_x1 c_x3 n) c_x4 M = true := h
    unfold dx_x_purge_128_b at h
    refine dp_le hab (dv_n 3 (by decide)) v_x4 h (fun h => ?_) (fun h => ?_)
    · exact hk _ _ _ _ v_x3 hR h
    · refine dp_fs (dv_add (dv_mul (dv_n 3 (by decide)) v_x4) v_x1) h (fun c1 v1 h => ?_)
      refine dp_in (by decide) v1 h (fun l2 h => ?_)
      intro am12216_81 e_am12216_81
      refine dp_st h (fun M3 m3 t3 h => ?_)
      have R3 := dr_u16 hR v1 l2 (dv_n 0 (by decide)) t3 m3 e_am12216_81
      intro x4_82 e_x4_82
      refine dp_fs (dv_of e_x4_82 (dv_add v_x4 (dv_n 1 (by decide)))) h (fun c_x4_82 v_x4_82 h => ?_)
      exact ih v_x4_82 R3 h
noncomputable def dx_x_purge_24_b (k : Nat → Nat → Bool) (c_x1 c_x2 : Nat) (ih : Nat → Nat → Nat → Bool) (c_x3 c_x4 M : Nat) : Bool := dx_fs (dx_ce M 0) (fun c1 => dx_le c1 c_x4 (dx_eq c_x3 0 (k 8195 M) (dx_fs (dx_add (dx_mul 8 c_x1) c_x2) (fun c2 => dx_in c2 24 (dx_st M (Nat.add 1289 c2) 0 (fun M4 => dx_st M4 (Nat.add 3236 c2) 0 (fun M5 => dx_px_renew (fun M6 => dx_x_purge_128 k c_x1 c_x3 100 0 M6) c_x1 c_x2 M5)))))) (dx_fs (dx_add (dx_mul 80 c_x1) c_x4) (fun c_x5_83 => dx_in c_x4 80 (dx_fs (dx_ce M (Nat.add 1 c_x4)) (fun c8 => dx_eq c8 c_x2 (dx_in c_x5_83 240 (dx_fs (dx_ce M (Nat.add 569 c_x5_83)) (fun c10 => dx_eq c10 0 (dx_fs (dx_add c_x4 1) (fun c_x4_89 => ih c_x3 c_x4_89 M)) (dx_st M (Nat.add 569 c_x5_83) 0 (fun M11 => dx_st M11 (Nat.add 1049 c_x5_83) 0 (fun M12 => dx_fs (dx_add c_x3 1) (fun c_x3_94 => dx_fs (dx_add c_x4 1) (fun c_x4_95 => ih c_x3_94 c_x4_95 M12)))))))) (dx_fs (dx_add c_x4 1) (fun c_x4_86 => ih c_x3 c_x4_86 M)))))))
noncomputable def dx_x_purge_24 (k : Nat → Nat → Bool) (c_x1 c_x2 : Nat) (n : Nat) : Nat → Nat → Nat → Bool := Nat.rec (motive := fun _ => Nat → Nat → Nat → Bool) (fun _ _ _ => false) (fun _ ih => dx_x_purge_24_b k c_x1 c_x2 ih) n
theorem ds_x_purge_24 {a b : Int32} (hab : dx_ab a b) {post : Int32 → St2 → Prop} {x1 x2 : Int32} {f0_made : Int32} {k : Nat → Nat → Bool} {c_x1 c_x2 : Nat} (hk : ∀ (c : Nat) (r : Int32) (M : Nat) (u : St2), dx_v a b c r → dx_R a b M u → k c M = true → post r u) (v_x1 : dx_v a b c_x1 x1) (v_x2 : dx_v a b c_x2 x2) : ∀ (n : Nat) {x3 x4 : Int32} {a1 a2 a3 a4 a5 a6 a7 a8 a9 a10 a11 a12 a13 a14 a15 a16 a17 a18 a19 a20 a21 a22 : Nat → Int32} {c_x3 c_x4 : Nat} {M : Nat}, dx_v a b c_x3 x3 → dx_v a b c_x4 x4 → dx_R a b M (f0_made, a1, a2, a3, a4, a5, a6, a7, a8, a9, a10, a11, a12, a13, a14, a15, a16, a17, a18, a19, a20, a21, a22) → dx_x_purge_24 k c_x1 c_x2 n c_x3 c_x4 M = true → wX_purge_24 post x1 x2 f0_made n x3 x4 a1 a2 a3 a4 a5 a6 a7 a8 a9 a10 a11 a12 a13 a14 a15 a16 a17 a18 a19 a20 a21 a22 := by
  intro n
  induction n with
  | zero =>
    intro x3 x4 a1 a2 a3 a4 a5 a6 a7 a8 a9 a10 a11 a12 a13 a14 a15 a16 a17 a18 a19 a20 a21 a22 c_x3 c_x4 M v_x3 v_x4 hR h
    exact absurd (show false = true from h) (by decide)
  | succ n ih =>
    intro x3 x4 a1 a2 a3 a4 a5 a6 a7 a8 a9 a10 a11 a12 a13 a14 a15 a16 a17 a18 a19 a20 a21 a22 c_x3 c_x4 M v_x3 v_x4 hR h
    replace h : dx_x_purge_24_b k c_x1 c_x2 (dx_x_purge_24 k c_x1 c_x2 n) c_x3 c_x4 M = true := h
    unfold dx_x_purge_24_b at h
    refine dp_fs (dr_g0 hR) h (fun c1 v1 h => ?_)
    refine dp_le hab v1 v_x4 h (fun h => ?_) (fun h => ?_)
    · refine dp_eq hab v_x3 (dv_n 0 (by decide)) h (fun h => ?_) (fun h => ?_)
      · exact hk _ _ _ _ dv_m1000000003 hR h
      · refine dp_fs (dv_add (dv_mul (dv_n 8 (by decide)) v_x1) v_x2) h (fun c2 v2 h => ?_)
        refine dp_in (by decide) v2 h (fun l3 h => ?_)
        intro a12_8 e_a12_8
        refine dp_st h (fun M4 m4 t4 h => ?_)
        have R4 := dr_u12 hR v2 l3 (dv_n 0 (by decide)) t4 m4 e_a12_8
        refine ⟨dv_in v2 l3 (by decide), ?_⟩
        intro a15_10 e_a15_10
        refine dp_st h (fun M5 m5 t5 h => ?_)
        have R5 := dr_u15 R4 v2 l3 (dv_n 0 (by decide)) t5 m5 e_a15_10
        refine ds_px_renew hab ?_ v_x1 v_x2 R5 h
        intro M6 u6 R6 h
        obtain ⟨f0_made_12, am1221_15, am1222_18, am1223_21, am1224_24, am1225_27, am1226_30, am1227_33, am1228_36, am1229_39, am12210_42, am12211_45, am12212_48, am12213_51, am12214_54, am12215_57, am12216_60, am12217_63, am12218_66, am12219_69, am12220_72, am12221_75, am12222_78⟩ := u6
        refine ⟨100, ?_⟩
        exact ds_x_purge_128 hab hk v_x1 v_x3 100 (dv_n 0 (by decide)) R6 h
    · intro x5_83 e_x5_83
      refine dp_fs (dv_of e_x5_83 (dv_add (dv_mul (dv_n 80 (by decide)) v_x1) v_x4)) h (fun c_x5_83 v_x5_83 h => ?_)
      refine dp_in (by decide) v_x4 h (fun l7 h => ?_)
      refine dp_fs (dr_g1 hR v_x4 l7) h (fun c8 v8 h => ?_)
      refine dp_eq hab v8 v_x2 h (fun h => ?_) (fun h => ?_)
      · refine dp_in (by decide) v_x5_83 h (fun l9 h => ?_)
        refine dp_fs (dr_g9 hR v_x5_83 l9) h (fun c10 v10 h => ?_)
        refine dp_eq hab v10 (dv_n 0 (by decide)) h (fun h => ?_) (fun h => ?_)
        · intro x4_89 e_x4_89
          refine dp_fs (dv_of e_x4_89 (dv_add v_x4 (dv_n 1 (by decide)))) h (fun c_x4_89 v_x4_89 h => ?_)
          exact ih v_x3 v_x4_89 hR h
        · refine ⟨dv_in v_x5_83 l9 (by decide), ?_⟩
          intro a9_91 e_a9_91
          refine dp_st h (fun M11 m11 t11 h => ?_)
          have R11 := dr_u9 hR v_x5_83 l9 (dv_n 0 (by decide)) t11 m11 e_a9_91
          refine ⟨dv_in v_x5_83 l9 (by decide), ?_⟩
          intro a11_93 e_a11_93
          refine dp_st h (fun M12 m12 t12 h => ?_)
          have R12 := dr_u11 R11 v_x5_83 l9 (dv_n 0 (by decide)) t12 m12 e_a11_93
          intro x3_94 e_x3_94
          refine dp_fs (dv_of e_x3_94 (dv_add v_x3 (dv_n 1 (by decide)))) h (fun c_x3_94 v_x3_94 h => ?_)
          intro x4_95 e_x4_95
          refine dp_fs (dv_of e_x4_95 (dv_add v_x4 (dv_n 1 (by decide)))) h (fun c_x4_95 v_x4_95 h => ?_)
          exact ih v_x3_94 v_x4_95 R12 h
      · intro x4_86 e_x4_86
        refine dp_fs (dv_of e_x4_86 (dv_add v_x4 (dv_n 1 (by decide)))) h (fun c_x4_86 v_x4_86 h => ?_)
        exact ih v_x3 v_x4_86 hR h
noncomputable def dx_px_purge (k : Nat → Nat → Bool) (c_p0 c_p1 : Nat) (M : Nat) : Bool := dx_px_badStore (fun c_r_1 => dx_eq c_r_1 0 (dx_px_badDocument (fun c_r_3 => dx_eq c_r_3 0 (dx_x_purge_24 k c_p0 c_p1 100 0 0 M) (k 8193 M)) c_p1 M) (k 8193 M)) c_p0 M
theorem ds_px_purge {a b : Int32} (hab : dx_ab a b) {post : Int32 → St2 → Prop} {p0 p1 : Int32} {u : St2} {k : Nat → Nat → Bool} {c_p0 c_p1 : Nat} {M : Nat} (hk : ∀ (c : Nat) (r : Int32) (M : Nat) (u : St2), dx_v a b c r → dx_R a b M u → k c M = true → post r u) (v_p0 : dx_v a b c_p0 p0) (v_p1 : dx_v a b c_p1 p1) (hR : dx_R a b M u) (h : dx_px_purge k c_p0 c_p1 M = true) : wpX_purge post u p0 p1 := by
  unfold dx_px_purge at h
  obtain ⟨f0_made, a1, a2, a3, a4, a5, a6, a7, a8, a9, a10, a11, a12, a13, a14, a15, a16, a17, a18, a19, a20, a21, a22⟩ := u
  unfold wpX_purge
  refine ds_px_badStore hab ?_ v_p0 hR h
  intro c_r_1 r_1 v_r_1 h
  refine dp_eq hab v_r_1 (dv_n 0 (by decide)) h (fun h => ?_) (fun h => ?_)
  · refine ds_px_badDocument hab ?_ v_p1 hR h
    intro c_r_3 r_3 v_r_3 h
    refine dp_eq hab v_r_3 (dv_n 0 (by decide)) h (fun h => ?_) (fun h => ?_)
    · refine ⟨100, ?_⟩
      exact ds_x_purge_24 hab hk v_p0 v_p1 100 (dv_n 0 (by decide)) (dv_n 0 (by decide)) hR h
    · exact hk _ _ _ _ dv_m1000000001 hR h
  · exact hk _ _ _ _ dv_m1000000001 hR h
noncomputable def dx_px_stamp (k : Nat → Bool) (c_p0 c_p1 : Nat) (M : Nat) : Bool := dx_px_badStore (fun c_r_1 => dx_eq c_r_1 0 (dx_px_badDocument (fun c_r_3 => dx_eq c_r_3 0 (dx_fs (dx_add (dx_mul 8 c_p0) c_p1) (fun c1 => dx_in c1 24 (dx_fs (dx_ce M (Nat.add 3236 c1)) (fun c3 => k c3)))) (k 8193)) c_p1 M) (k 8193)) c_p0 M
theorem ds_px_stamp {a b : Int32} (hab : dx_ab a b) {post : Int32 → Prop} {p0 p1 : Int32} {u : St2} {k : Nat → Bool} {c_p0 c_p1 : Nat} {M : Nat} (hk : ∀ (c : Nat) (r : Int32), dx_v a b c r → k c = true → post r) (v_p0 : dx_v a b c_p0 p0) (v_p1 : dx_v a b c_p1 p1) (hR : dx_R a b M u) (h : dx_px_stamp k c_p0 c_p1 M = true) : wpX_stamp post u p0 p1 := by
  unfold dx_px_stamp at h
  obtain ⟨f0_made, a1, a2, a3, a4, a5, a6, a7, a8, a9, a10, a11, a12, a13, a14, a15, a16, a17, a18, a19, a20, a21, a22⟩ := u
  unfold wpX_stamp
  refine ds_px_badStore hab ?_ v_p0 hR h
  intro c_r_1 r_1 v_r_1 h
  refine dp_eq hab v_r_1 (dv_n 0 (by decide)) h (fun h => ?_) (fun h => ?_)
  · refine ds_px_badDocument hab ?_ v_p1 hR h
    intro c_r_3 r_3 v_r_3 h
    refine dp_eq hab v_r_3 (dv_n 0 (by decide)) h (fun h => ?_) (fun h => ?_)
    · refine dp_fs (dv_add (dv_mul (dv_n 8 (by decide)) v_p0) v_p1) h (fun c1 v1 h => ?_)
      refine dp_in (by decide) v1 h (fun l2 h => ?_)
      refine dp_fs (dr_g15 hR v1 l2) h (fun c3 v3 h => ?_)
      exact hk _ _ v3 h
    · exact hk _ _ dv_m1000000001 h
  · exact hk _ _ dv_m1000000001 h
noncomputable def dx_x_nextChanged_5_b (k : Nat → Bool) (c_x1 c_x2 : Nat) (M : Nat) (ih : Nat → Nat → Bool) (c_x3 c_x4 : Nat) : Bool := dx_le 8 c_x4 (k c_x3) (dx_fs (dx_add (dx_mul 8 c_x1) c_x4) (fun c1 => dx_in c1 24 (dx_fs (dx_ce M (Nat.add 3236 c1)) (fun c_x5_3 => dx_le c_x5_3 c_x2 (dx_fs (dx_add c_x4 1) (fun c_x4_5 => ih c_x3 c_x4_5)) (dx_eq c_x3 8192 (dx_fs (dx_add c_x4 1) (fun c_x4_7 => ih c_x4 c_x4_7)) (dx_fs (dx_add (dx_mul 8 c_x1) c_x3) (fun c3 => dx_in c3 24 (dx_fs (dx_ce M (Nat.add 3236 c3)) (fun c5 => dx_le c5 c_x5_3 (dx_fs (dx_add c_x4 1) (fun c_x4_10 => ih c_x3 c_x4_10)) (dx_fs (dx_add c_x4 1) (fun c_x4_11 => ih c_x4 c_x4_11)))))))))))
noncomputable def dx_x_nextChanged_5 (k : Nat → Bool) (c_x1 c_x2 : Nat) (M : Nat) (n : Nat) : Nat → Nat → Bool := Nat.rec (motive := fun _ => Nat → Nat → Bool) (fun _ _ => false) (fun _ ih => dx_x_nextChanged_5_b k c_x1 c_x2 M ih) n
theorem ds_x_nextChanged_5 {a b : Int32} (hab : dx_ab a b) {post : Int32 → Prop} {x1 x2 : Int32} {f0_made : Int32} {a1 a2 a3 a4 a5 a6 a7 a8 a9 a10 a11 a12 a13 a14 a15 a16 a17 a18 a19 a20 a21 a22 : Nat → Int32} {k : Nat → Bool} {c_x1 c_x2 : Nat} {M : Nat} (hk : ∀ (c : Nat) (r : Int32), dx_v a b c r → k c = true → post r) (v_x1 : dx_v a b c_x1 x1) (v_x2 : dx_v a b c_x2 x2) (hR : dx_R a b M (f0_made, a1, a2, a3, a4, a5, a6, a7, a8, a9, a10, a11, a12, a13, a14, a15, a16, a17, a18, a19, a20, a21, a22)) : ∀ (n : Nat) {x3 x4 : Int32} {c_x3 c_x4 : Nat}, dx_v a b c_x3 x3 → dx_v a b c_x4 x4 → dx_x_nextChanged_5 k c_x1 c_x2 M n c_x3 c_x4 = true → wX_nextChanged_5 post x1 x2 f0_made a1 a2 a3 a4 a5 a6 a7 a8 a9 a10 a11 a12 a13 a14 a15 a16 a17 a18 a19 a20 a21 a22 n x3 x4 := by
  intro n
  induction n with
  | zero =>
    intro x3 x4 c_x3 c_x4 v_x3 v_x4 h
    exact absurd (show false = true from h) (by decide)
  | succ n ih =>
    intro x3 x4 c_x3 c_x4 v_x3 v_x4 h
    replace h : dx_x_nextChanged_5_b k c_x1 c_x2 M (dx_x_nextChanged_5 k c_x1 c_x2 M n) c_x3 c_x4 = true := h
    unfold dx_x_nextChanged_5_b at h
    refine dp_le hab (dv_n 8 (by decide)) v_x4 h (fun h => ?_) (fun h => ?_)
    · exact hk _ _ v_x3 h
    · refine dp_fs (dv_add (dv_mul (dv_n 8 (by decide)) v_x1) v_x4) h (fun c1 v1 h => ?_)
      refine dp_in (by decide) v1 h (fun l2 h => ?_)
      intro x5_3 e_x5_3
      refine dp_fs (dv_of e_x5_3 (dr_g15 hR v1 l2)) h (fun c_x5_3 v_x5_3 h => ?_)
      refine dp_le hab v_x5_3 v_x2 h (fun h => ?_) (fun h => ?_)
      · intro x4_5 e_x4_5
        refine dp_fs (dv_of e_x4_5 (dv_add v_x4 (dv_n 1 (by decide)))) h (fun c_x4_5 v_x4_5 h => ?_)
        exact ih v_x3 v_x4_5 h
      · refine dp_eq hab v_x3 dv_m1 h (fun h => ?_) (fun h => ?_)
        · intro x4_7 e_x4_7
          refine dp_fs (dv_of e_x4_7 (dv_add v_x4 (dv_n 1 (by decide)))) h (fun c_x4_7 v_x4_7 h => ?_)
          exact ih v_x4 v_x4_7 h
        · refine dp_fs (dv_add (dv_mul (dv_n 8 (by decide)) v_x1) v_x3) h (fun c3 v3 h => ?_)
          refine dp_in (by decide) v3 h (fun l4 h => ?_)
          refine dp_fs (dr_g15 hR v3 l4) h (fun c5 v5 h => ?_)
          refine dp_le hab v5 v_x5_3 h (fun h => ?_) (fun h => ?_)
          · intro x4_10 e_x4_10
            refine dp_fs (dv_of e_x4_10 (dv_add v_x4 (dv_n 1 (by decide)))) h (fun c_x4_10 v_x4_10 h => ?_)
            exact ih v_x3 v_x4_10 h
          · intro x4_11 e_x4_11
            refine dp_fs (dv_of e_x4_11 (dv_add v_x4 (dv_n 1 (by decide)))) h (fun c_x4_11 v_x4_11 h => ?_)
            exact ih v_x4 v_x4_11 h
noncomputable def dx_px_nextChanged (k : Nat → Bool) (c_p0 c_p1 : Nat) (M : Nat) : Bool := dx_x_nextChanged_5 k c_p0 c_p1 M 100 8192 0
theorem ds_px_nextChanged {a b : Int32} (hab : dx_ab a b) {post : Int32 → Prop} {p0 p1 : Int32} {u : St2} {k : Nat → Bool} {c_p0 c_p1 : Nat} {M : Nat} (hk : ∀ (c : Nat) (r : Int32), dx_v a b c r → k c = true → post r) (v_p0 : dx_v a b c_p0 p0) (v_p1 : dx_v a b c_p1 p1) (hR : dx_R a b M u) (h : dx_px_nextChanged k c_p0 c_p1 M = true) : wpX_nextChanged post u p0 p1 := by
  unfold dx_px_nextChanged at h
  obtain ⟨f0_made, a1, a2, a3, a4, a5, a6, a7, a8, a9, a10, a11, a12, a13, a14, a15, a16, a17, a18, a19, a20, a21, a22⟩ := u
  refine ⟨100, ?_⟩
  exact ds_x_nextChanged_5 hab hk v_p0 v_p1 hR 100 dv_m1 (dv_n 0 (by decide)) h
noncomputable def dx_x_copyBodies_16_b (k : Nat → Bool) (c_x1 c_x2 c_x3 c_x4 : Nat) (ih : Nat → Nat → Bool) (c_x5 M : Nat) : Bool := dx_le c_x4 c_x5 (k M) (dx_px_leafAt (fun c_r_4 => dx_fs (dx_add (dx_mul 80 c_x1) c_r_4) (fun c1 => dx_in c1 240 (dx_fs (dx_ce M (Nat.add 1049 c1)) (fun c_x7_6 => dx_fs (dx_add (dx_mul 80 c_x2) c_r_4) (fun c3 => dx_in c3 240 (dx_fs (dx_ce M (Nat.add 1049 c3)) (fun c5 => dx_eq c5 0 (dx_eq c_x7_6 0 (dx_st M (Nat.add 1049 c3) 0 (fun M6 => dx_fs (dx_add c_x5 1) (fun c_x5_15 => ih c_x5_15 M6))) (dx_st M (Nat.add 1049 c3) 1 (fun M7 => dx_fs (dx_add c_x5 1) (fun c_x5_18 => ih c_x5_18 M7)))) (dx_st M (Nat.add 1049 c3) 1 (fun M8 => dx_fs (dx_add c_x5 1) (fun c_x5_11 => ih c_x5_11 M8)))))))))) c_x1 c_x3 c_x5 M)
noncomputable def dx_x_copyBodies_16 (k : Nat → Bool) (c_x1 c_x2 c_x3 c_x4 : Nat) (n : Nat) : Nat → Nat → Bool := Nat.rec (motive := fun _ => Nat → Nat → Bool) (fun _ _ => false) (fun _ ih => dx_x_copyBodies_16_b k c_x1 c_x2 c_x3 c_x4 ih) n
theorem ds_x_copyBodies_16 {a b : Int32} (hab : dx_ab a b) {post : St2 → Prop} {x1 x2 x3 x4 : Int32} {f0_made : Int32} {k : Nat → Bool} {c_x1 c_x2 c_x3 c_x4 : Nat} (hk : ∀ (M : Nat) (u : St2), dx_R a b M u → k M = true → post u) (v_x1 : dx_v a b c_x1 x1) (v_x2 : dx_v a b c_x2 x2) (v_x3 : dx_v a b c_x3 x3) (v_x4 : dx_v a b c_x4 x4) : ∀ (n : Nat) {x5 : Int32} {a1 a2 a3 a4 a5 a6 a7 a8 a9 a10 a11 a12 a13 a14 a15 a16 a17 a18 a19 a20 a21 a22 : Nat → Int32} {c_x5 : Nat} {M : Nat}, dx_v a b c_x5 x5 → dx_R a b M (f0_made, a1, a2, a3, a4, a5, a6, a7, a8, a9, a10, a11, a12, a13, a14, a15, a16, a17, a18, a19, a20, a21, a22) → dx_x_copyBodies_16 k c_x1 c_x2 c_x3 c_x4 n c_x5 M = true → wX_copyBodies_16 post x1 x2 x3 x4 f0_made n x5 a1 a2 a3 a4 a5 a6 a7 a8 a9 a10 a11 a12 a13 a14 a15 a16 a17 a18 a19 a20 a21 a22 := by
  intro n
  induction n with
  | zero =>
    intro x5 a1 a2 a3 a4 a5 a6 a7 a8 a9 a10 a11 a12 a13 a14 a15 a16 a17 a18 a19 a20 a21 a22 c_x5 M v_x5 hR h
    exact absurd (show false = true from h) (by decide)
  | succ n ih =>
    intro x5 a1 a2 a3 a4 a5 a6 a7 a8 a9 a10 a11 a12 a13 a14 a15 a16 a17 a18 a19 a20 a21 a22 c_x5 M v_x5 hR h
    replace h : dx_x_copyBodies_16_b k c_x1 c_x2 c_x3 c_x4 (dx_x_copyBodies_16 k c_x1 c_x2 c_x3 c_x4 n) c_x5 M = true := h
    unfold dx_x_copyBodies_16_b at h
    refine dp_le hab v_x4 v_x5 h (fun h => ?_) (fun h => ?_)
    · exact hk _ _ hR h
    · refine ds_px_leafAt hab ?_ v_x1 v_x3 v_x5 hR h
      intro c_r_4 r_4 v_r_4 h
      refine dp_fs (dv_add (dv_mul (dv_n 80 (by decide)) v_x1) v_r_4) h (fun c1 v1 h => ?_)
      refine dp_in (by decide) v1 h (fun l2 h => ?_)
      intro x7_6 e_x7_6
      refine dp_fs (dv_of e_x7_6 (dr_g11 hR v1 l2)) h (fun c_x7_6 v_x7_6 h => ?_)
      refine dp_fs (dv_add (dv_mul (dv_n 80 (by decide)) v_x2) v_r_4) h (fun c3 v3 h => ?_)
      refine dp_in (by decide) v3 h (fun l4 h => ?_)
      refine dp_fs (dr_g11 hR v3 l4) h (fun c5 v5 h => ?_)
      refine dp_eq hab v5 (dv_n 0 (by decide)) h (fun h => ?_) (fun h => ?_)
      · refine dp_eq hab v_x7_6 (dv_n 0 (by decide)) h (fun h => ?_) (fun h => ?_)
        · refine ⟨dv_in v3 l4 (by decide), ?_⟩
          intro a11_14 e_a11_14
          refine dp_st h (fun M6 m6 t6 h => ?_)
          have R6 := dr_u11 hR v3 l4 (dv_n 0 (by decide)) t6 m6 e_a11_14
          intro x5_15 e_x5_15
          refine dp_fs (dv_of e_x5_15 (dv_add v_x5 (dv_n 1 (by decide)))) h (fun c_x5_15 v_x5_15 h => ?_)
          exact ih v_x5_15 R6 h
        · refine ⟨dv_in v3 l4 (by decide), ?_⟩
          intro a11_17 e_a11_17
          refine dp_st h (fun M7 m7 t7 h => ?_)
          have R7 := dr_u11 hR v3 l4 (dv_n 1 (by decide)) t7 m7 e_a11_17
          intro x5_18 e_x5_18
          refine dp_fs (dv_of e_x5_18 (dv_add v_x5 (dv_n 1 (by decide)))) h (fun c_x5_18 v_x5_18 h => ?_)
          exact ih v_x5_18 R7 h
      · refine ⟨dv_in v3 l4 (by decide), ?_⟩
        intro a11_10 e_a11_10
        refine dp_st h (fun M8 m8 t8 h => ?_)
        have R8 := dr_u11 hR v3 l4 (dv_n 1 (by decide)) t8 m8 e_a11_10
        intro x5_11 e_x5_11
        refine dp_fs (dv_of e_x5_11 (dv_add v_x5 (dv_n 1 (by decide)))) h (fun c_x5_11 v_x5_11 h => ?_)
        exact ih v_x5_11 R8 h
noncomputable def dx_px_copyBodies (k : Nat → Bool) (c_p0 c_p1 c_p2 : Nat) (M : Nat) : Bool := dx_fs (dx_add (dx_mul 8 c_p0) c_p2) (fun c1 => dx_in c1 24 (dx_fs (dx_ce M (Nat.add 1289 c1)) (fun c_x4_2 => dx_x_copyBodies_16 k c_p0 c_p1 c_p2 c_x4_2 100 0 M)))
theorem ds_px_copyBodies {a b : Int32} (hab : dx_ab a b) {post : St2 → Prop} {p0 p1 p2 : Int32} {u : St2} {k : Nat → Bool} {c_p0 c_p1 c_p2 : Nat} {M : Nat} (hk : ∀ (M : Nat) (u : St2), dx_R a b M u → k M = true → post u) (v_p0 : dx_v a b c_p0 p0) (v_p1 : dx_v a b c_p1 p1) (v_p2 : dx_v a b c_p2 p2) (hR : dx_R a b M u) (h : dx_px_copyBodies k c_p0 c_p1 c_p2 M = true) : wpX_copyBodies post u p0 p1 p2 := by
  unfold dx_px_copyBodies at h
  obtain ⟨f0_made, a1, a2, a3, a4, a5, a6, a7, a8, a9, a10, a11, a12, a13, a14, a15, a16, a17, a18, a19, a20, a21, a22⟩ := u
  refine dp_fs (dv_add (dv_mul (dv_n 8 (by decide)) v_p0) v_p2) h (fun c1 v1 h => ?_)
  refine dp_in (by decide) v1 h (fun l2 h => ?_)
  intro x4_2 e_x4_2
  refine dp_fs (dv_of e_x4_2 (dr_g12 hR v1 l2)) h (fun c_x4_2 v_x4_2 h => ?_)
  refine ⟨100, ?_⟩
  exact ds_x_copyBodies_16 hab hk v_p0 v_p1 v_p2 v_x4_2 100 (dv_n 0 (by decide)) hR h
noncomputable def dx_x_copyDocument_6_b (k : Nat → Nat → Bool) (c_x1 c_x2 c_x3 : Nat) (ih : Nat → Nat → Nat → Bool) (c_x4 c_x5 M : Nat) : Bool := dx_fs (dx_ce M 0) (fun c1 => dx_le c1 c_x5 (dx_eq c_x4 0 (dx_bo c_x4 (k c_x4 M)) (dx_px_copyBodies (fun M2 => dx_px_stampNow (fun M3 => dx_px_renew (fun M4 => dx_bo c_x4 (k c_x4 M4)) c_x2 c_x3 M3) c_x2 c_x3 M2) c_x1 c_x2 c_x3 M)) (dx_in c_x5 80 (dx_fs (dx_ce M (Nat.add 1 c_x5)) (fun c6 => dx_eq c6 c_x3 (dx_fs (dx_add (dx_mul 80 c_x1) c_x5) (fun c7 => dx_in c7 240 (dx_fs (dx_ce M (Nat.add 569 c7)) (fun c9 => dx_eq c9 0 (dx_fs (dx_add c_x5 1) (fun c_x5_214 => ih c_x4 c_x5_214 M)) (dx_fs (dx_add (dx_mul 80 c_x2) c_x5) (fun c10 => dx_in c10 240 (dx_fs (dx_ce M (Nat.add 569 c10)) (fun c12 => dx_eq c12 0 (dx_px_learn (fun M13 => dx_fs (dx_add c_x5 1) (fun c_x5_286 => ih 1 c_x5_286 M13)) c_x2 c_x5 M) (dx_fs (dx_add c_x5 1) (fun c_x5_217 => ih c_x4 c_x5_217 M)))))))))) (dx_fs (dx_add c_x5 1) (fun c_x5_211 => ih c_x4 c_x5_211 M))))))
noncomputable def dx_x_copyDocument_6 (k : Nat → Nat → Bool) (c_x1 c_x2 c_x3 : Nat) (n : Nat) : Nat → Nat → Nat → Bool := Nat.rec (motive := fun _ => Nat → Nat → Nat → Bool) (fun _ _ _ => false) (fun _ ih => dx_x_copyDocument_6_b k c_x1 c_x2 c_x3 ih) n
theorem ds_x_copyDocument_6 {a b : Int32} (hab : dx_ab a b) {post : Int32 → St2 → Prop} {x1 x2 x3 : Int32} {k : Nat → Nat → Bool} {c_x1 c_x2 c_x3 : Nat} (hk : ∀ (c : Nat) (r : Int32) (M : Nat) (u : St2), dx_v a b c r → dx_R a b M u → k c M = true → post r u) (v_x1 : dx_v a b c_x1 x1) (v_x2 : dx_v a b c_x2 x2) (v_x3 : dx_v a b c_x3 x3) : ∀ (n : Nat) {x4 x5 : Int32} {f0_made : Int32} {a1 a2 a3 a4 a5 a6 a7 a8 a9 a10 a11 a12 a13 a14 a15 a16 a17 a18 a19 a20 a21 a22 : Nat → Int32} {c_x4 c_x5 : Nat} {M : Nat}, dx_v a b c_x4 x4 → dx_v a b c_x5 x5 → dx_R a b M (f0_made, a1, a2, a3, a4, a5, a6, a7, a8, a9, a10, a11, a12, a13, a14, a15, a16, a17, a18, a19, a20, a21, a22) → dx_x_copyDocument_6 k c_x1 c_x2 c_x3 n c_x4 c_x5 M = true → wX_copyDocument_6 post x1 x2 x3 n x4 x5 f0_made a1 a2 a3 a4 a5 a6 a7 a8 a9 a10 a11 a12 a13 a14 a15 a16 a17 a18 a19 a20 a21 a22 := by
  intro n
  induction n with
  | zero =>
    intro x4 x5 f0_made a1 a2 a3 a4 a5 a6 a7 a8 a9 a10 a11 a12 a13 a14 a15 a16 a17 a18 a19 a20 a21 a22 c_x4 c_x5 M v_x4 v_x5 hR h
    exact absurd (show false = true from h) (by decide)
  | succ n ih =>
    intro x4 x5 f0_made a1 a2 a3 a4 a5 a6 a7 a8 a9 a10 a11 a12 a13 a14 a15 a16 a17 a18 a19 a20 a21 a22 c_x4 c_x5 M v_x4 v_x5 hR h
    replace h : dx_x_copyDocument_6_b k c_x1 c_x2 c_x3 (dx_x_copyDocument_6 k c_x1 c_x2 c_x3 n) c_x4 c_x5 M = true := h
    unfold dx_x_copyDocument_6_b at h
    refine dp_fs (dr_g0 hR) h (fun c1 v1 h => ?_)
    refine dp_le hab v1 v_x5 h (fun h => ?_) (fun h => ?_)
    · refine dp_eq hab v_x4 (dv_n 0 (by decide)) h (fun h => ?_) (fun h => ?_)
      · refine dp_bo v_x4 h (fun h => ?_)
        exact hk _ _ _ _ v_x4 hR h
      · refine ds_px_copyBodies hab ?_ v_x1 v_x2 v_x3 hR h
        intro M2 u2 R2 h
        obtain ⟨f0_made_5, am811_8, am812_11, am813_14, am814_17, am815_20, am816_23, am817_26, am818_29, am819_32, am8110_35, am8111_38, am8112_41, am8113_44, am8114_47, am8115_50, am8116_53, am8117_56, am8118_59, am8119_62, am8120_65, am8121_68, am8122_71⟩ := u2
        refine ds_px_stampNow hab ?_ v_x2 v_x3 R2 h
        intro M3 u3 R3 h
        obtain ⟨f0_made_73, am871_76, am872_79, am873_82, am874_85, am875_88, am876_91, am877_94, am878_97, am879_100, am8710_103, am8711_106, am8712_109, am8713_112, am8714_115, am8715_118, am8716_121, am8717_124, am8718_127, am8719_130, am8720_133, am8721_136, am8722_139⟩ := u3
        refine ds_px_renew hab ?_ v_x2 v_x3 R3 h
        intro M4 u4 R4 h
        obtain ⟨f0_made_141, am931_144, am932_147, am933_150, am934_153, am935_156, am936_159, am937_162, am938_165, am939_168, am9310_171, am9311_174, am9312_177, am9313_180, am9314_183, am9315_186, am9316_189, am9317_192, am9318_195, am9319_198, am9320_201, am9321_204, am9322_207⟩ := u4
        refine dp_bo v_x4 h (fun h => ?_)
        exact hk _ _ _ _ v_x4 R4 h
    · refine dp_in (by decide) v_x5 h (fun l5 h => ?_)
      refine dp_fs (dr_g1 hR v_x5 l5) h (fun c6 v6 h => ?_)
      refine dp_eq hab v6 v_x3 h (fun h => ?_) (fun h => ?_)
      · refine dp_fs (dv_add (dv_mul (dv_n 80 (by decide)) v_x1) v_x5) h (fun c7 v7 h => ?_)
        refine dp_in (by decide) v7 h (fun l8 h => ?_)
        refine dp_fs (dr_g9 hR v7 l8) h (fun c9 v9 h => ?_)
        refine dp_eq hab v9 (dv_n 0 (by decide)) h (fun h => ?_) (fun h => ?_)
        · intro x5_214 e_x5_214
          refine dp_fs (dv_of e_x5_214 (dv_add v_x5 (dv_n 1 (by decide)))) h (fun c_x5_214 v_x5_214 h => ?_)
          exact ih v_x4 v_x5_214 hR h
        · refine dp_fs (dv_add (dv_mul (dv_n 80 (by decide)) v_x2) v_x5) h (fun c10 v10 h => ?_)
          refine dp_in (by decide) v10 h (fun l11 h => ?_)
          refine dp_fs (dr_g9 hR v10 l11) h (fun c12 v12 h => ?_)
          refine dp_eq hab v12 (dv_n 0 (by decide)) h (fun h => ?_) (fun h => ?_)
          · refine ds_px_learn hab ?_ v_x2 v_x5 hR h
            intro M13 u13 R13 h
            obtain ⟨f0_made_219, am601_222, am602_225, am603_228, am604_231, am605_234, am606_237, am607_240, am608_243, am609_246, am6010_249, am6011_252, am6012_255, am6013_258, am6014_261, am6015_264, am6016_267, am6017_270, am6018_273, am6019_276, am6020_279, am6021_282, am6022_285⟩ := u13
            intro x5_286 e_x5_286
            refine dp_fs (dv_of e_x5_286 (dv_add v_x5 (dv_n 1 (by decide)))) h (fun c_x5_286 v_x5_286 h => ?_)
            exact ih (dv_n 1 (by decide)) v_x5_286 R13 h
          · intro x5_217 e_x5_217
            refine dp_fs (dv_of e_x5_217 (dv_add v_x5 (dv_n 1 (by decide)))) h (fun c_x5_217 v_x5_217 h => ?_)
            exact ih v_x4 v_x5_217 hR h
      · intro x5_211 e_x5_211
        refine dp_fs (dv_of e_x5_211 (dv_add v_x5 (dv_n 1 (by decide)))) h (fun c_x5_211 v_x5_211 h => ?_)
        exact ih v_x4 v_x5_211 hR h
noncomputable def dx_px_copyDocument (k : Nat → Nat → Bool) (c_p0 c_p1 c_p2 : Nat) (M : Nat) : Bool := dx_x_copyDocument_6 k c_p0 c_p1 c_p2 100 0 0 M
theorem ds_px_copyDocument {a b : Int32} (hab : dx_ab a b) {post : Int32 → St2 → Prop} {p0 p1 p2 : Int32} {u : St2} {k : Nat → Nat → Bool} {c_p0 c_p1 c_p2 : Nat} {M : Nat} (hk : ∀ (c : Nat) (r : Int32) (M : Nat) (u : St2), dx_v a b c r → dx_R a b M u → k c M = true → post r u) (v_p0 : dx_v a b c_p0 p0) (v_p1 : dx_v a b c_p1 p1) (v_p2 : dx_v a b c_p2 p2) (hR : dx_R a b M u) (h : dx_px_copyDocument k c_p0 c_p1 c_p2 M = true) : wpX_copyDocument post u p0 p1 p2 := by
  unfold dx_px_copyDocument at h
  obtain ⟨f0_made, a1, a2, a3, a4, a5, a6, a7, a8, a9, a10, a11, a12, a13, a14, a15, a16, a17, a18, a19, a20, a21, a22⟩ := u
  refine ⟨100, ?_⟩
  exact ds_x_copyDocument_6 hab hk v_p0 v_p1 v_p2 100 (dv_n 0 (by decide)) (dv_n 0 (by decide)) hR h
noncomputable def dx_x_copy_115 (k : Nat → Nat → Bool) (c_x1 c_x2 c_x3 : Nat) (M : Nat) : Bool := dx_in c_x1 3 (dx_fs (dx_add (dx_mul 3 c_x1) c_x2) (fun c2 => dx_in c2 9 (dx_fs (dx_ce M (Nat.add 3233 c_x1)) (fun c4 => dx_st M (Nat.add 3260 c2) c4 (fun M5 => k c_x3 M5)))))
theorem ds_x_copy_115 {a b : Int32} (hab : dx_ab a b) {post : Int32 → St2 → Prop} {x1 x2 x3 : Int32} {f0_made : Int32} {a1 a2 a3 a4 a5 a6 a7 a8 a9 a10 a11 a12 a13 a14 a15 a16 a17 a18 a19 a20 a21 a22 : Nat → Int32} {k : Nat → Nat → Bool} {c_x1 c_x2 c_x3 : Nat} {M : Nat} (hk : ∀ (c : Nat) (r : Int32) (M : Nat) (u : St2), dx_v a b c r → dx_R a b M u → k c M = true → post r u) (v_x1 : dx_v a b c_x1 x1) (v_x2 : dx_v a b c_x2 x2) (v_x3 : dx_v a b c_x3 x3) (hR : dx_R a b M (f0_made, a1, a2, a3, a4, a5, a6, a7, a8, a9, a10, a11, a12, a13, a14, a15, a16, a17, a18, a19, a20, a21, a22)) (h : dx_x_copy_115 k c_x1 c_x2 c_x3 M = true) : wX_copy_115 post x1 x2 x3 f0_made a1 a2 a3 a4 a5 a6 a7 a8 a9 a10 a11 a12 a13 a14 a15 a16 a17 a18 a19 a20 a21 a22 := by
  unfold dx_x_copy_115 at h
  refine dp_in (by decide) v_x1 h (fun l1 h => ?_)
  refine dp_fs (dv_add (dv_mul (dv_n 3 (by decide)) v_x1) v_x2) h (fun c2 v2 h => ?_)
  refine dp_in (by decide) v2 h (fun l3 h => ?_)
  refine dp_fs (dr_g14 hR v_x1 l1) h (fun c4 v4 h => ?_)
  intro a16_12 e_a16_12
  refine dp_st h (fun M5 m5 t5 h => ?_)
  have R5 := dr_u16 hR v2 l3 v4 t5 m5 e_a16_12
  exact hk _ _ _ _ v_x3 R5 h
noncomputable def dx_x_copy_85 (k : Nat → Nat → Bool) (Jk : Nat → Nat → Nat → Nat → Bool) (c_x1 c_x2 c_x5 c_x6 c_z0 : Nat) (M : Nat) : Bool := dx_fs (dx_add (dx_mul 8 c_x1) c_x5) (fun c1 => dx_in c1 24 (dx_fs (dx_ce M (Nat.add 3236 c1)) (fun c_x4_84 => dx_px_nextChanged (fun c_r_85 => dx_fs (dx_add c_x6 1) (fun c_x6_86 => Jk c_z0 c_r_85 c_x6_86 M)) c_x1 c_x4_84 M)))
theorem ds_x_copy_85 {a b : Int32} (hab : dx_ab a b) {post : Int32 → St2 → Prop} {J50 : Int32 → Int32 → Int32 → Int32 → (Nat → Int32) → (Nat → Int32) → (Nat → Int32) → (Nat → Int32) → (Nat → Int32) → (Nat → Int32) → (Nat → Int32) → (Nat → Int32) → (Nat → Int32) → (Nat → Int32) → (Nat → Int32) → (Nat → Int32) → (Nat → Int32) → (Nat → Int32) → (Nat → Int32) → (Nat → Int32) → (Nat → Int32) → (Nat → Int32) → (Nat → Int32) → (Nat → Int32) → (Nat → Int32) → (Nat → Int32) → Prop} {x1 x2 x5 x6 z0 : Int32} {f0_made : Int32} {am681 am682 am683 am684 am685 am686 am687 am688 am689 am6810 am6811 am6812 am6813 am6814 am6815 am6816 am6817 am6818 am6819 am6820 am6821 am6822 : Nat → Int32} {k : Nat → Nat → Bool} {Jk : Nat → Nat → Nat → Nat → Bool} {c_x1 c_x2 c_x5 c_x6 c_z0 : Nat} {M : Nat} (hk : ∀ (c : Nat) (r : Int32) (M : Nat) (u : St2), dx_v a b c r → dx_R a b M u → k c M = true → post r u) (hJ : ∀ {j0 j1 j2 : Int32} {mj : Int32} {b1 b2 b3 b4 b5 b6 b7 b8 b9 b10 b11 b12 b13 b14 b15 b16 b17 b18 b19 b20 b21 b22 : Nat → Int32} {d0 d1 d2 : Nat} {Mj : Nat}, dx_v a b d0 j0 → dx_v a b d1 j1 → dx_v a b d2 j2 → dx_R a b Mj (mj, b1, b2, b3, b4, b5, b6, b7, b8, b9, b10, b11, b12, b13, b14, b15, b16, b17, b18, b19, b20, b21, b22) → Jk d0 d1 d2 Mj = true → J50 j0 j1 j2 mj b1 b2 b3 b4 b5 b6 b7 b8 b9 b10 b11 b12 b13 b14 b15 b16 b17 b18 b19 b20 b21 b22) (v_x1 : dx_v a b c_x1 x1) (v_x2 : dx_v a b c_x2 x2) (v_x5 : dx_v a b c_x5 x5) (v_x6 : dx_v a b c_x6 x6) (v_z0 : dx_v a b c_z0 z0) (hR : dx_R a b M (f0_made, am681, am682, am683, am684, am685, am686, am687, am688, am689, am6810, am6811, am6812, am6813, am6814, am6815, am6816, am6817, am6818, am6819, am6820, am6821, am6822)) (h : dx_x_copy_85 k Jk c_x1 c_x2 c_x5 c_x6 c_z0 M = true) : wX_copy_85 post J50 x1 x2 x5 x6 z0 f0_made am681 am682 am683 am684 am685 am686 am687 am688 am689 am6810 am6811 am6812 am6813 am6814 am6815 am6816 am6817 am6818 am6819 am6820 am6821 am6822 := by
  unfold dx_x_copy_85 at h
  refine dp_fs (dv_add (dv_mul (dv_n 8 (by decide)) v_x1) v_x5) h (fun c1 v1 h => ?_)
  refine dp_in (by decide) v1 h (fun l2 h => ?_)
  intro x4_84 e_x4_84
  refine dp_fs (dv_of e_x4_84 (dr_g15 hR v1 l2)) h (fun c_x4_84 v_x4_84 h => ?_)
  refine ds_px_nextChanged hab ?_ v_x1 v_x4_84 hR h
  intro c_r_85 r_85 v_r_85 h
  intro x6_86 e_x6_86
  refine dp_fs (dv_of e_x6_86 (dv_add v_x6 (dv_n 1 (by decide)))) h (fun c_x6_86 v_x6_86 h => ?_)
  exact hJ v_z0 v_r_85 v_x6_86 hR h
noncomputable def dx_x_copy_50_b (k : Nat → Nat → Bool) (c_x1 c_x2 : Nat) (ih : Nat → Nat → Nat → Nat → Bool) (c_x3 c_x5 c_x6 M : Nat) : Bool := dx_le 8 c_x6 (dx_x_copy_115 k c_x1 c_x2 c_x3 M) (dx_eq c_x5 8192 (dx_x_copy_115 k c_x1 c_x2 c_x3 M) (dx_px_copyDocument (fun c_r_14 M1 => dx_eq c_r_14 0 (dx_x_copy_85 k ih c_x1 c_x2 c_x5 c_x6 c_x3 M1) (dx_fs (dx_add c_x3 1) (fun c2 => dx_x_copy_85 k ih c_x1 c_x2 c_x5 c_x6 c2 M1))) c_x1 c_x2 c_x5 M))
noncomputable def dx_x_copy_50 (k : Nat → Nat → Bool) (c_x1 c_x2 : Nat) (n : Nat) : Nat → Nat → Nat → Nat → Bool := Nat.rec (motive := fun _ => Nat → Nat → Nat → Nat → Bool) (fun _ _ _ _ => false) (fun _ ih => dx_x_copy_50_b k c_x1 c_x2 ih) n
theorem ds_x_copy_50 {a b : Int32} (hab : dx_ab a b) {post : Int32 → St2 → Prop} {x1 x2 : Int32} {k : Nat → Nat → Bool} {c_x1 c_x2 : Nat} (hk : ∀ (c : Nat) (r : Int32) (M : Nat) (u : St2), dx_v a b c r → dx_R a b M u → k c M = true → post r u) (v_x1 : dx_v a b c_x1 x1) (v_x2 : dx_v a b c_x2 x2) : ∀ (n : Nat) {x3 x5 x6 : Int32} {f0_made : Int32} {a1 a2 a3 a4 a5 a6 a7 a8 a9 a10 a11 a12 a13 a14 a15 a16 a17 a18 a19 a20 a21 a22 : Nat → Int32} {c_x3 c_x5 c_x6 : Nat} {M : Nat}, dx_v a b c_x3 x3 → dx_v a b c_x5 x5 → dx_v a b c_x6 x6 → dx_R a b M (f0_made, a1, a2, a3, a4, a5, a6, a7, a8, a9, a10, a11, a12, a13, a14, a15, a16, a17, a18, a19, a20, a21, a22) → dx_x_copy_50 k c_x1 c_x2 n c_x3 c_x5 c_x6 M = true → wX_copy_50 post x1 x2 n x3 x5 x6 f0_made a1 a2 a3 a4 a5 a6 a7 a8 a9 a10 a11 a12 a13 a14 a15 a16 a17 a18 a19 a20 a21 a22 := by
  intro n
  induction n with
  | zero =>
    intro x3 x5 x6 f0_made a1 a2 a3 a4 a5 a6 a7 a8 a9 a10 a11 a12 a13 a14 a15 a16 a17 a18 a19 a20 a21 a22 c_x3 c_x5 c_x6 M v_x3 v_x5 v_x6 hR h
    exact absurd (show false = true from h) (by decide)
  | succ n ih =>
    intro x3 x5 x6 f0_made a1 a2 a3 a4 a5 a6 a7 a8 a9 a10 a11 a12 a13 a14 a15 a16 a17 a18 a19 a20 a21 a22 c_x3 c_x5 c_x6 M v_x3 v_x5 v_x6 hR h
    replace h : dx_x_copy_50_b k c_x1 c_x2 (dx_x_copy_50 k c_x1 c_x2 n) c_x3 c_x5 c_x6 M = true := h
    unfold dx_x_copy_50_b at h
    refine dp_le hab (dv_n 8 (by decide)) v_x6 h (fun h => ?_) (fun h => ?_)
    · exact ds_x_copy_115 hab hk v_x1 v_x2 v_x3 hR h
    · refine dp_eq hab v_x5 dv_m1 h (fun h => ?_) (fun h => ?_)
      · exact ds_x_copy_115 hab hk v_x1 v_x2 v_x3 hR h
      · refine ds_px_copyDocument hab ?_ v_x1 v_x2 v_x5 hR h
        intro c_r_14 r_14 M1 u1 v_r_14 R1 h
        obtain ⟨f0_made_15, am681_18, am682_21, am683_24, am684_27, am685_30, am686_33, am687_36, am688_39, am689_42, am6810_45, am6811_48, am6812_51, am6813_54, am6814_57, am6815_60, am6816_63, am6817_66, am6818_69, am6819_72, am6820_75, am6821_78, am6822_81⟩ := u1
        refine dp_eq hab v_r_14 (dv_n 0 (by decide)) h (fun h => ?_) (fun h => ?_)
        · exact ds_x_copy_85 hab hk (fun w0 w1 w2 wR wh => ih w0 w1 w2 wR wh) v_x1 v_x2 v_x5 v_x6 v_x3 R1 h
        · refine dp_fs (dv_add v_x3 (dv_n 1 (by decide))) h (fun c2 v2 h => ?_)
          exact ds_x_copy_85 hab hk (fun w0 w1 w2 wR wh => ih w0 w1 w2 wR wh) v_x1 v_x2 v_x5 v_x6 v2 R1 h
noncomputable def dx_px_copy (k : Nat → Nat → Bool) (c_p0 c_p1 : Nat) (M : Nat) : Bool := dx_px_badStore (fun c_r_1 => dx_eq c_r_1 0 (dx_px_badStore (fun c_r_3 => dx_eq c_r_3 0 (dx_eq c_p0 c_p1 (k 8193 M) (dx_fs (dx_add (dx_mul 3 c_p0) c_p1) (fun c1 => dx_in c1 9 (dx_fs (dx_ce M (Nat.add 3260 c1)) (fun c_x4_7 => dx_px_nextChanged (fun c_r_8 => dx_x_copy_50 k c_p0 c_p1 100 0 c_r_8 0 M) c_p0 c_x4_7 M))))) (k 8193 M)) c_p1 M) (k 8193 M)) c_p0 M
theorem ds_px_copy {a b : Int32} (hab : dx_ab a b) {post : Int32 → St2 → Prop} {p0 p1 : Int32} {u : St2} {k : Nat → Nat → Bool} {c_p0 c_p1 : Nat} {M : Nat} (hk : ∀ (c : Nat) (r : Int32) (M : Nat) (u : St2), dx_v a b c r → dx_R a b M u → k c M = true → post r u) (v_p0 : dx_v a b c_p0 p0) (v_p1 : dx_v a b c_p1 p1) (hR : dx_R a b M u) (h : dx_px_copy k c_p0 c_p1 M = true) : wpX_copy post u p0 p1 := by
  unfold dx_px_copy at h
  obtain ⟨f0_made, a1, a2, a3, a4, a5, a6, a7, a8, a9, a10, a11, a12, a13, a14, a15, a16, a17, a18, a19, a20, a21, a22⟩ := u
  unfold wpX_copy
  refine ds_px_badStore hab ?_ v_p0 hR h
  intro c_r_1 r_1 v_r_1 h
  refine dp_eq hab v_r_1 (dv_n 0 (by decide)) h (fun h => ?_) (fun h => ?_)
  · refine ds_px_badStore hab ?_ v_p1 hR h
    intro c_r_3 r_3 v_r_3 h
    refine dp_eq hab v_r_3 (dv_n 0 (by decide)) h (fun h => ?_) (fun h => ?_)
    · refine dp_eq hab v_p0 v_p1 h (fun h => ?_) (fun h => ?_)
      · exact hk _ _ _ _ dv_m1000000001 hR h
      · refine dp_fs (dv_add (dv_mul (dv_n 3 (by decide)) v_p0) v_p1) h (fun c1 v1 h => ?_)
        refine dp_in (by decide) v1 h (fun l2 h => ?_)
        intro x4_7 e_x4_7
        refine dp_fs (dv_of e_x4_7 (dr_g16 hR v1 l2)) h (fun c_x4_7 v_x4_7 h => ?_)
        refine ds_px_nextChanged hab ?_ v_p0 v_x4_7 hR h
        intro c_r_8 r_8 v_r_8 h
        refine ⟨100, ?_⟩
        exact ds_x_copy_50 hab hk v_p0 v_p1 100 (dv_n 0 (by decide)) v_r_8 (dv_n 0 (by decide)) hR h
    · exact hk _ _ _ _ dv_m1000000001 hR h
  · exact hk _ _ _ _ dv_m1000000001 hR h
end
section
noncomputable def dx_x_agree_23_b (k : Nat → Bool) (c_x1 c_x2 : Nat) (M : Nat) (ih : Nat → Nat → Bool) (c_x3 c_x4 : Nat) : Bool := dx_fs (dx_ce M 0) (fun c1 => dx_le c1 c_x4 (dx_bo c_x3 (k c_x3)) (dx_eq c_x3 0 (dx_fs (dx_add c_x4 1) (fun c_x4_8 => ih 0 c_x4_8)) (dx_fs (dx_add (dx_mul 80 c_x1) c_x4) (fun c2 => dx_in c2 240 (dx_fs (dx_add (dx_mul 80 c_x2) c_x4) (fun c4 => dx_in c4 240 (dx_fs (dx_ce M (Nat.add 569 c2)) (fun c6 => dx_fs (dx_ce M (Nat.add 569 c4)) (fun c7 => dx_eq c6 c7 (dx_fs (dx_add c_x4 1) (fun c_x4_13 => ih 1 c_x4_13)) (dx_fs (dx_add c_x4 1) (fun c_x4_12 => ih 0 c_x4_12)))))))))))
noncomputable def dx_x_agree_23 (k : Nat → Bool) (c_x1 c_x2 : Nat) (M : Nat) (n : Nat) : Nat → Nat → Bool := Nat.rec (motive := fun _ => Nat → Nat → Bool) (fun _ _ => false) (fun _ ih => dx_x_agree_23_b k c_x1 c_x2 M ih) n
theorem ds_x_agree_23 {a b : Int32} (hab : dx_ab a b) {post : Int32 → Prop} {x1 x2 : Int32} {f0_made : Int32} {a1 a2 a3 a4 a5 a6 a7 a8 a9 a10 a11 a12 a13 a14 a15 a16 a17 a18 a19 a20 a21 a22 : Nat → Int32} {k : Nat → Bool} {c_x1 c_x2 : Nat} {M : Nat} (hk : ∀ (c : Nat) (r : Int32), dx_v a b c r → k c = true → post r) (v_x1 : dx_v a b c_x1 x1) (v_x2 : dx_v a b c_x2 x2) (hR : dx_R a b M (f0_made, a1, a2, a3, a4, a5, a6, a7, a8, a9, a10, a11, a12, a13, a14, a15, a16, a17, a18, a19, a20, a21, a22)) : ∀ (n : Nat) {x3 x4 : Int32} {c_x3 c_x4 : Nat}, dx_v a b c_x3 x3 → dx_v a b c_x4 x4 → dx_x_agree_23 k c_x1 c_x2 M n c_x3 c_x4 = true → wX_agree_23 post x1 x2 f0_made a1 a2 a3 a4 a5 a6 a7 a8 a9 a10 a11 a12 a13 a14 a15 a16 a17 a18 a19 a20 a21 a22 n x3 x4 := by
  intro n
  induction n with
  | zero =>
    intro x3 x4 c_x3 c_x4 v_x3 v_x4 h
    exact absurd (show false = true from h) (by decide)
  | succ n ih =>
    intro x3 x4 c_x3 c_x4 v_x3 v_x4 h
    replace h : dx_x_agree_23_b k c_x1 c_x2 M (dx_x_agree_23 k c_x1 c_x2 M n) c_x3 c_x4 = true := h
    unfold dx_x_agree_23_b at h
    refine dp_fs (dr_g0 hR) h (fun c1 v1 h => ?_)
    refine dp_le hab v1 v_x4 h (fun h => ?_) (fun h => ?_)
    · refine dp_bo v_x3 h (fun h => ?_)
      exact hk _ _ v_x3 h
    · refine dp_eq hab v_x3 (dv_n 0 (by decide)) h (fun h => ?_) (fun h => ?_)
      · intro x4_8 e_x4_8
        refine dp_fs (dv_of e_x4_8 (dv_add v_x4 (dv_n 1 (by decide)))) h (fun c_x4_8 v_x4_8 h => ?_)
        exact ih (dv_n 0 (by decide)) v_x4_8 h
      · refine dp_fs (dv_add (dv_mul (dv_n 80 (by decide)) v_x1) v_x4) h (fun c2 v2 h => ?_)
        refine dp_in (by decide) v2 h (fun l3 h => ?_)
        refine dp_fs (dv_add (dv_mul (dv_n 80 (by decide)) v_x2) v_x4) h (fun c4 v4 h => ?_)
        refine dp_in (by decide) v4 h (fun l5 h => ?_)
        refine dp_fs (dr_g9 hR v2 l3) h (fun c6 v6 h => ?_)
        refine dp_fs (dr_g9 hR v4 l5) h (fun c7 v7 h => ?_)
        refine dp_eq hab v6 v7 h (fun h => ?_) (fun h => ?_)
        · intro x4_13 e_x4_13
          refine dp_fs (dv_of e_x4_13 (dv_add v_x4 (dv_n 1 (by decide)))) h (fun c_x4_13 v_x4_13 h => ?_)
          exact ih (dv_n 1 (by decide)) v_x4_13 h
        · intro x4_12 e_x4_12
          refine dp_fs (dv_of e_x4_12 (dv_add v_x4 (dv_n 1 (by decide)))) h (fun c_x4_12 v_x4_12 h => ?_)
          exact ih (dv_n 0 (by decide)) v_x4_12 h
noncomputable def dx_px_agree (k : Nat → Bool) (c_p0 c_p1 : Nat) (M : Nat) : Bool := dx_px_badStore (fun c_r_1 => dx_eq c_r_1 0 (dx_px_badStore (fun c_r_3 => dx_eq c_r_3 0 (dx_x_agree_23 k c_p0 c_p1 M 100 1 0) (k 0)) c_p1 M) (k 0)) c_p0 M
theorem ds_px_agree {a b : Int32} (hab : dx_ab a b) {post : Int32 → Prop} {p0 p1 : Int32} {u : St2} {k : Nat → Bool} {c_p0 c_p1 : Nat} {M : Nat} (hk : ∀ (c : Nat) (r : Int32), dx_v a b c r → k c = true → post r) (v_p0 : dx_v a b c_p0 p0) (v_p1 : dx_v a b c_p1 p1) (hR : dx_R a b M u) (h : dx_px_agree k c_p0 c_p1 M = true) : wpX_agree post u p0 p1 := by
  unfold dx_px_agree at h
  obtain ⟨f0_made, a1, a2, a3, a4, a5, a6, a7, a8, a9, a10, a11, a12, a13, a14, a15, a16, a17, a18, a19, a20, a21, a22⟩ := u
  unfold wpX_agree
  refine ds_px_badStore hab ?_ v_p0 hR h
  intro c_r_1 r_1 v_r_1 h
  refine dp_eq hab v_r_1 (dv_n 0 (by decide)) h (fun h => ?_) (fun h => ?_)
  · refine ds_px_badStore hab ?_ v_p1 hR h
    intro c_r_3 r_3 v_r_3 h
    refine dp_eq hab v_r_3 (dv_n 0 (by decide)) h (fun h => ?_) (fun h => ?_)
    · refine ⟨100, ?_⟩
      exact ds_x_agree_23 hab hk v_p0 v_p1 hR 100 (dv_n 1 (by decide)) (dv_n 0 (by decide)) h
    · exact hk _ _ (dv_n 0 (by decide)) h
  · exact hk _ _ (dv_n 0 (by decide)) h
noncomputable def dx_px_winner (k : Nat → Bool) (c_p0 c_p1 : Nat) (M : Nat) : Bool := dx_px_badStore (fun c_r_1 => dx_eq c_r_1 0 (dx_px_badDocument (fun c_r_3 => dx_eq c_r_3 0 (dx_px_findWinner (fun c_r_5 => dx_eq c_r_5 8192 (k 8195) (k c_r_5)) c_p0 c_p1 M) (k 8193)) c_p1 M) (k 8193)) c_p0 M
theorem ds_px_winner {a b : Int32} (hab : dx_ab a b) {post : Int32 → Prop} {p0 p1 : Int32} {u : St2} {k : Nat → Bool} {c_p0 c_p1 : Nat} {M : Nat} (hk : ∀ (c : Nat) (r : Int32), dx_v a b c r → k c = true → post r) (v_p0 : dx_v a b c_p0 p0) (v_p1 : dx_v a b c_p1 p1) (hR : dx_R a b M u) (h : dx_px_winner k c_p0 c_p1 M = true) : wpX_winner post u p0 p1 := by
  unfold dx_px_winner at h
  obtain ⟨f0_made, a1, a2, a3, a4, a5, a6, a7, a8, a9, a10, a11, a12, a13, a14, a15, a16, a17, a18, a19, a20, a21, a22⟩ := u
  unfold wpX_winner
  refine ds_px_badStore hab ?_ v_p0 hR h
  intro c_r_1 r_1 v_r_1 h
  refine dp_eq hab v_r_1 (dv_n 0 (by decide)) h (fun h => ?_) (fun h => ?_)
  · refine ds_px_badDocument hab ?_ v_p1 hR h
    intro c_r_3 r_3 v_r_3 h
    refine dp_eq hab v_r_3 (dv_n 0 (by decide)) h (fun h => ?_) (fun h => ?_)
    · refine ds_px_findWinner hab ?_ v_p0 v_p1 hR h
      intro c_r_5 r_5 v_r_5 h
      refine dp_eq hab v_r_5 dv_m1 h (fun h => ?_) (fun h => ?_)
      · exact hk _ _ dv_m1000000003 h
      · exact hk _ _ v_r_5 h
    · exact hk _ _ dv_m1000000001 h
  · exact hk _ _ dv_m1000000001 h
noncomputable def dx_px_revisions (k : Nat → Bool) (M : Nat) : Bool := dx_fs (dx_ce M 0) (fun c1 => k c1)
theorem ds_px_revisions {a b : Int32} (hab : dx_ab a b) {post : Int32 → Prop} {u : St2} {k : Nat → Bool} {M : Nat} (hk : ∀ (c : Nat) (r : Int32), dx_v a b c r → k c = true → post r) (hR : dx_R a b M u) (h : dx_px_revisions k M = true) : wpX_revisions post u := by
  unfold dx_px_revisions at h
  obtain ⟨f0_made, a1, a2, a3, a4, a5, a6, a7, a8, a9, a10, a11, a12, a13, a14, a15, a16, a17, a18, a19, a20, a21, a22⟩ := u
  refine dp_fs (dr_g0 hR) h (fun c1 v1 h => ?_)
  exact hk _ _ v1 h
noncomputable def dx_px_noRevision (k : Nat → Bool) (c_p0 : Nat) (M : Nat) : Bool := dx_ls c_p0 0 (k 1) (dx_fs (dx_ce M 0) (fun c1 => dx_ls c_p0 c1 (k 0) (k 1)))
theorem ds_px_noRevision {a b : Int32} (hab : dx_ab a b) {post : Int32 → Prop} {p0 : Int32} {u : St2} {k : Nat → Bool} {c_p0 : Nat} {M : Nat} (hk : ∀ (c : Nat) (r : Int32), dx_v a b c r → k c = true → post r) (v_p0 : dx_v a b c_p0 p0) (hR : dx_R a b M u) (h : dx_px_noRevision k c_p0 M = true) : wpX_noRevision post u p0 := by
  unfold dx_px_noRevision at h
  obtain ⟨f0_made, a1, a2, a3, a4, a5, a6, a7, a8, a9, a10, a11, a12, a13, a14, a15, a16, a17, a18, a19, a20, a21, a22⟩ := u
  refine dp_ls hab v_p0 (dv_n 0 (by decide)) h (fun h => ?_) (fun h => ?_)
  · exact hk _ _ (dv_n 1 (by decide)) h
  · refine dp_fs (dr_g0 hR) h (fun c1 v1 h => ?_)
    refine dp_ls hab v_p0 v1 h (fun h => ?_) (fun h => ?_)
    · exact hk _ _ (dv_n 0 (by decide)) h
    · exact hk _ _ (dv_n 1 (by decide)) h
noncomputable def dx_px_knows (k : Nat → Bool) (c_p0 c_p1 : Nat) (M : Nat) : Bool := dx_px_badStore (fun c_r_1 => dx_eq c_r_1 0 (dx_px_noRevision (fun c_r_3 => dx_eq c_r_3 0 (dx_fs (dx_add (dx_mul 80 c_p0) c_p1) (fun c1 => dx_in c1 240 (dx_fs (dx_ce M (Nat.add 569 c1)) (fun c3 => dx_eq c3 0 (k 0) (k 1))))) (k 0)) c_p1 M) (k 0)) c_p0 M
theorem ds_px_knows {a b : Int32} (hab : dx_ab a b) {post : Int32 → Prop} {p0 p1 : Int32} {u : St2} {k : Nat → Bool} {c_p0 c_p1 : Nat} {M : Nat} (hk : ∀ (c : Nat) (r : Int32), dx_v a b c r → k c = true → post r) (v_p0 : dx_v a b c_p0 p0) (v_p1 : dx_v a b c_p1 p1) (hR : dx_R a b M u) (h : dx_px_knows k c_p0 c_p1 M = true) : wpX_knows post u p0 p1 := by
  unfold dx_px_knows at h
  obtain ⟨f0_made, a1, a2, a3, a4, a5, a6, a7, a8, a9, a10, a11, a12, a13, a14, a15, a16, a17, a18, a19, a20, a21, a22⟩ := u
  unfold wpX_knows
  refine ds_px_badStore hab ?_ v_p0 hR h
  intro c_r_1 r_1 v_r_1 h
  refine dp_eq hab v_r_1 (dv_n 0 (by decide)) h (fun h => ?_) (fun h => ?_)
  · refine ds_px_noRevision hab ?_ v_p1 hR h
    intro c_r_3 r_3 v_r_3 h
    refine dp_eq hab v_r_3 (dv_n 0 (by decide)) h (fun h => ?_) (fun h => ?_)
    · refine dp_fs (dv_add (dv_mul (dv_n 80 (by decide)) v_p0) v_p1) h (fun c1 v1 h => ?_)
      refine dp_in (by decide) v1 h (fun l2 h => ?_)
      refine dp_fs (dr_g9 hR v1 l2) h (fun c3 v3 h => ?_)
      refine dp_eq hab v3 (dv_n 0 (by decide)) h (fun h => ?_) (fun h => ?_)
      · exact hk _ _ (dv_n 0 (by decide)) h
      · exact hk _ _ (dv_n 1 (by decide)) h
    · exact hk _ _ (dv_n 0 (by decide)) h
  · exact hk _ _ (dv_n 0 (by decide)) h
noncomputable def dx_px_noLeaf (k : Nat → Bool) (c_p0 c_p1 c_p2 : Nat) (M : Nat) : Bool := dx_ls c_p2 0 (k 1) (dx_fs (dx_add (dx_mul 8 c_p0) c_p1) (fun c1 => dx_in c1 24 (dx_fs (dx_ce M (Nat.add 1289 c1)) (fun c3 => dx_ls c_p2 c3 (k 0) (k 1)))))
theorem ds_px_noLeaf {a b : Int32} (hab : dx_ab a b) {post : Int32 → Prop} {p0 p1 p2 : Int32} {u : St2} {k : Nat → Bool} {c_p0 c_p1 c_p2 : Nat} {M : Nat} (hk : ∀ (c : Nat) (r : Int32), dx_v a b c r → k c = true → post r) (v_p0 : dx_v a b c_p0 p0) (v_p1 : dx_v a b c_p1 p1) (v_p2 : dx_v a b c_p2 p2) (hR : dx_R a b M u) (h : dx_px_noLeaf k c_p0 c_p1 c_p2 M = true) : wpX_noLeaf post u p0 p1 p2 := by
  unfold dx_px_noLeaf at h
  obtain ⟨f0_made, a1, a2, a3, a4, a5, a6, a7, a8, a9, a10, a11, a12, a13, a14, a15, a16, a17, a18, a19, a20, a21, a22⟩ := u
  refine dp_ls hab v_p2 (dv_n 0 (by decide)) h (fun h => ?_) (fun h => ?_)
  · exact hk _ _ (dv_n 1 (by decide)) h
  · refine dp_fs (dv_add (dv_mul (dv_n 8 (by decide)) v_p0) v_p1) h (fun c1 v1 h => ?_)
    refine dp_in (by decide) v1 h (fun l2 h => ?_)
    refine dp_fs (dr_g12 hR v1 l2) h (fun c3 v3 h => ?_)
    refine dp_ls hab v_p2 v3 h (fun h => ?_) (fun h => ?_)
    · exact hk _ _ (dv_n 0 (by decide)) h
    · exact hk _ _ (dv_n 1 (by decide)) h
noncomputable def dx_px_editLeaf (k : Nat → Nat → Bool) (c_p0 c_p1 c_p2 c_p3 : Nat) (M : Nat) : Bool := dx_px_badStore (fun c_r_1 => dx_eq c_r_1 0 (dx_px_badDocument (fun c_r_3 => dx_eq c_r_3 0 (dx_px_noLeaf (fun c_r_5 => dx_eq c_r_5 0 (dx_px_leafAt (fun c_r_7 => dx_px_change (fun c_r_8 M1 => k c_r_8 M1) c_p0 c_p1 c_r_7 c_p3 0 M) c_p0 c_p1 c_p2 M) (k 8195 M)) c_p0 c_p1 c_p2 M) (k 8193 M)) c_p1 M) (k 8193 M)) c_p0 M
theorem ds_px_editLeaf {a b : Int32} (hab : dx_ab a b) {post : Int32 → St2 → Prop} {p0 p1 p2 p3 : Int32} {u : St2} {k : Nat → Nat → Bool} {c_p0 c_p1 c_p2 c_p3 : Nat} {M : Nat} (hk : ∀ (c : Nat) (r : Int32) (M : Nat) (u : St2), dx_v a b c r → dx_R a b M u → k c M = true → post r u) (v_p0 : dx_v a b c_p0 p0) (v_p1 : dx_v a b c_p1 p1) (v_p2 : dx_v a b c_p2 p2) (v_p3 : dx_v a b c_p3 p3) (hR : dx_R a b M u) (h : dx_px_editLeaf k c_p0 c_p1 c_p2 c_p3 M = true) : wpX_editLeaf post u p0 p1 p2 p3 := by
  unfold dx_px_editLeaf at h
  obtain ⟨f0_made, a1, a2, a3, a4, a5, a6, a7, a8, a9, a10, a11, a12, a13, a14, a15, a16, a17, a18, a19, a20, a21, a22⟩ := u
  unfold wpX_editLeaf
  refine ds_px_badStore hab ?_ v_p0 hR h
  intro c_r_1 r_1 v_r_1 h
  refine dp_eq hab v_r_1 (dv_n 0 (by decide)) h (fun h => ?_) (fun h => ?_)
  · refine ds_px_badDocument hab ?_ v_p1 hR h
    intro c_r_3 r_3 v_r_3 h
    refine dp_eq hab v_r_3 (dv_n 0 (by decide)) h (fun h => ?_) (fun h => ?_)
    · refine ds_px_noLeaf hab ?_ v_p0 v_p1 v_p2 hR h
      intro c_r_5 r_5 v_r_5 h
      refine dp_eq hab v_r_5 (dv_n 0 (by decide)) h (fun h => ?_) (fun h => ?_)
      · refine ds_px_leafAt hab ?_ v_p0 v_p1 v_p2 hR h
        intro c_r_7 r_7 v_r_7 h
        refine ds_px_change hab ?_ v_p0 v_p1 v_r_7 v_p3 (dv_n 0 (by decide)) hR h
        intro c_r_8 r_8 M1 u1 v_r_8 R1 h
        obtain ⟨f0_made_9, am491_12, am492_15, am493_18, am494_21, am495_24, am496_27, am497_30, am498_33, am499_36, am4910_39, am4911_42, am4912_45, am4913_48, am4914_51, am4915_54, am4916_57, am4917_60, am4918_63, am4919_66, am4920_69, am4921_72, am4922_75⟩ := u1
        exact hk _ _ _ _ v_r_8 R1 h
      · exact hk _ _ _ _ dv_m1000000003 hR h
    · exact hk _ _ _ _ dv_m1000000001 hR h
  · exact hk _ _ _ _ dv_m1000000001 hR h
noncomputable def dx_px_revision (k : Nat → Bool) (c_p0 c_p1 : Nat) (M : Nat) : Bool := dx_ls c_p1 0 (k 8193) (dx_le c_p1 3 (dx_px_noRevision (fun c_r_3 => dx_eq c_r_3 0 (dx_eq c_p1 0 (dx_in c_p0 80 (dx_fs (dx_ce M (Nat.add 1 c_p0)) (fun c2 => k c2))) (dx_eq c_p1 1 (dx_in c_p0 80 (dx_fs (dx_ce M (Nat.add 81 c_p0)) (fun c4 => dx_eq c4 8192 (k 8195) (k c4)))) (dx_eq c_p1 2 (dx_in c_p0 80 (dx_fs (dx_ce M (Nat.add 321 c_p0)) (fun c6 => k c6))) (dx_in c_p0 80 (dx_fs (dx_ce M (Nat.add 241 c_p0)) (fun c8 => dx_eq c8 0 (k 0) (k 1))))))) (k 8195)) c_p0 M) (k 8193))
theorem ds_px_revision {a b : Int32} (hab : dx_ab a b) {post : Int32 → Prop} {p0 p1 : Int32} {u : St2} {k : Nat → Bool} {c_p0 c_p1 : Nat} {M : Nat} (hk : ∀ (c : Nat) (r : Int32), dx_v a b c r → k c = true → post r) (v_p0 : dx_v a b c_p0 p0) (v_p1 : dx_v a b c_p1 p1) (hR : dx_R a b M u) (h : dx_px_revision k c_p0 c_p1 M = true) : wpX_revision post u p0 p1 := by
  unfold dx_px_revision at h
  obtain ⟨f0_made, a1, a2, a3, a4, a5, a6, a7, a8, a9, a10, a11, a12, a13, a14, a15, a16, a17, a18, a19, a20, a21, a22⟩ := u
  refine dp_ls hab v_p1 (dv_n 0 (by decide)) h (fun h => ?_) (fun h => ?_)
  · exact hk _ _ dv_m1000000001 h
  · refine dp_le hab v_p1 (dv_n 3 (by decide)) h (fun h => ?_) (fun h => ?_)
    · refine ds_px_noRevision hab ?_ v_p0 hR h
      intro c_r_3 r_3 v_r_3 h
      refine dp_eq hab v_r_3 (dv_n 0 (by decide)) h (fun h => ?_) (fun h => ?_)
      · refine dp_eq hab v_p1 (dv_n 0 (by decide)) h (fun h => ?_) (fun h => ?_)
        · refine dp_in (by decide) v_p0 h (fun l1 h => ?_)
          refine dp_fs (dr_g1 hR v_p0 l1) h (fun c2 v2 h => ?_)
          exact hk _ _ v2 h
        · refine dp_eq hab v_p1 (dv_n 1 (by decide)) h (fun h => ?_) (fun h => ?_)
          · refine dp_in (by decide) v_p0 h (fun l3 h => ?_)
            refine dp_fs (dr_g2 hR v_p0 l3) h (fun c4 v4 h => ?_)
            refine dp_eq hab v4 dv_m1 h (fun h => ?_) (fun h => ?_)
            · exact hk _ _ dv_m1000000003 h
            · refine ⟨dv_in v_p0 l3 (by decide), ?_⟩
              exact hk _ _ v4 h
          · refine dp_eq hab v_p1 (dv_n 2 (by decide)) h (fun h => ?_) (fun h => ?_)
            · refine dp_in (by decide) v_p0 h (fun l5 h => ?_)
              refine dp_fs (dr_g5 hR v_p0 l5) h (fun c6 v6 h => ?_)
              exact hk _ _ v6 h
            · refine dp_in (by decide) v_p0 h (fun l7 h => ?_)
              refine dp_fs (dr_g4 hR v_p0 l7) h (fun c8 v8 h => ?_)
              refine dp_eq hab v8 (dv_n 0 (by decide)) h (fun h => ?_) (fun h => ?_)
              · exact hk _ _ (dv_n 0 (by decide)) h
              · exact hk _ _ (dv_n 1 (by decide)) h
      · exact hk _ _ dv_m1000000003 h
    · exact hk _ _ dv_m1000000001 h
noncomputable def dx_x_compact_80 (k : Nat → Nat → Bool) (Jk : Nat → Nat → Nat → Bool) (c_x1 c_x3 c_x4 c_x5 c_z0 : Nat) (M : Nat) : Bool := dx_in c_x4 240 (dx_fs (dx_ce M (Nat.add 1049 c_x4)) (fun c2 => dx_eq c2 0 (dx_st M (Nat.add 1049 c_x4) 0 (fun M3 => dx_fs (dx_add c_x3 1) (fun c_x3_12 => Jk c_z0 c_x3_12 M3))) (dx_eq c_x5 0 (dx_st M (Nat.add 1049 c_x4) 1 (fun M4 => dx_fs (dx_add c_x3 1) (fun c_x3_19 => Jk c_z0 c_x3_19 M4))) (dx_st M (Nat.add 1049 c_x4) 0 (fun M5 => dx_fs (dx_add c_x3 1) (fun c_x3_16 => Jk c_z0 c_x3_16 M5))))))
theorem ds_x_compact_80 {a b : Int32} (hab : dx_ab a b) {post : Int32 → St2 → Prop} {J15 : Int32 → Int32 → (Nat → Int32) → (Nat → Int32) → (Nat → Int32) → (Nat → Int32) → (Nat → Int32) → (Nat → Int32) → (Nat → Int32) → (Nat → Int32) → (Nat → Int32) → (Nat → Int32) → (Nat → Int32) → (Nat → Int32) → (Nat → Int32) → (Nat → Int32) → (Nat → Int32) → (Nat → Int32) → (Nat → Int32) → (Nat → Int32) → (Nat → Int32) → (Nat → Int32) → (Nat → Int32) → (Nat → Int32) → Prop} {x1 x3 x4 x5 z0 : Int32} {f0_made : Int32} {a1 a2 a3 a4 a5 a6 a7 a8 a9 a10 a11 a12 a13 a14 a15 a16 a17 a18 a19 a20 a21 a22 : Nat → Int32} {k : Nat → Nat → Bool} {Jk : Nat → Nat → Nat → Bool} {c_x1 c_x3 c_x4 c_x5 c_z0 : Nat} {M : Nat} (hk : ∀ (c : Nat) (r : Int32) (M : Nat) (u : St2), dx_v a b c r → dx_R a b M u → k c M = true → post r u) (hJ : ∀ {j0 j1 : Int32} {b1 b2 b3 b4 b5 b6 b7 b8 b9 b10 b11 b12 b13 b14 b15 b16 b17 b18 b19 b20 b21 b22 : Nat → Int32} {d0 d1 : Nat} {Mj : Nat}, dx_v a b d0 j0 → dx_v a b d1 j1 → dx_R a b Mj (f0_made, b1, b2, b3, b4, b5, b6, b7, b8, b9, b10, b11, b12, b13, b14, b15, b16, b17, b18, b19, b20, b21, b22) → Jk d0 d1 Mj = true → J15 j0 j1 b1 b2 b3 b4 b5 b6 b7 b8 b9 b10 b11 b12 b13 b14 b15 b16 b17 b18 b19 b20 b21 b22) (v_x1 : dx_v a b c_x1 x1) (v_x3 : dx_v a b c_x3 x3) (v_x4 : dx_v a b c_x4 x4) (v_x5 : dx_v a b c_x5 x5) (v_z0 : dx_v a b c_z0 z0) (hR : dx_R a b M (f0_made, a1, a2, a3, a4, a5, a6, a7, a8, a9, a10, a11, a12, a13, a14, a15, a16, a17, a18, a19, a20, a21, a22)) (h : dx_x_compact_80 k Jk c_x1 c_x3 c_x4 c_x5 c_z0 M = true) : wX_compact_80 post J15 x1 x3 x4 x5 z0 f0_made a1 a2 a3 a4 a5 a6 a7 a8 a9 a10 a11 a12 a13 a14 a15 a16 a17 a18 a19 a20 a21 a22 := by
  unfold dx_x_compact_80 at h
  refine dp_in (by decide) v_x4 h (fun l1 h => ?_)
  refine dp_fs (dr_g11 hR v_x4 l1) h (fun c2 v2 h => ?_)
  refine dp_eq hab v2 (dv_n 0 (by decide)) h (fun h => ?_) (fun h => ?_)
  · refine ⟨dv_in v_x4 l1 (by decide), ?_⟩
    intro a11_11 e_a11_11
    refine dp_st h (fun M3 m3 t3 h => ?_)
    have R3 := dr_u11 hR v_x4 l1 (dv_n 0 (by decide)) t3 m3 e_a11_11
    intro x3_12 e_x3_12
    refine dp_fs (dv_of e_x3_12 (dv_add v_x3 (dv_n 1 (by decide)))) h (fun c_x3_12 v_x3_12 h => ?_)
    exact hJ v_z0 v_x3_12 R3 h
  · refine dp_eq hab v_x5 (dv_n 0 (by decide)) h (fun h => ?_) (fun h => ?_)
    · refine ⟨dv_in v_x4 l1 (by decide), ?_⟩
      intro a11_18 e_a11_18
      refine dp_st h (fun M4 m4 t4 h => ?_)
      have R4 := dr_u11 hR v_x4 l1 (dv_n 1 (by decide)) t4 m4 e_a11_18
      intro x3_19 e_x3_19
      refine dp_fs (dv_of e_x3_19 (dv_add v_x3 (dv_n 1 (by decide)))) h (fun c_x3_19 v_x3_19 h => ?_)
      exact hJ v_z0 v_x3_19 R4 h
    · refine ⟨dv_in v_x4 l1 (by decide), ?_⟩
      intro a11_15 e_a11_15
      refine dp_st h (fun M5 m5 t5 h => ?_)
      have R5 := dr_u11 hR v_x4 l1 (dv_n 0 (by decide)) t5 m5 e_a11_15
      intro x3_16 e_x3_16
      refine dp_fs (dv_of e_x3_16 (dv_add v_x3 (dv_n 1 (by decide)))) h (fun c_x3_16 v_x3_16 h => ?_)
      exact hJ v_z0 v_x3_16 R5 h
noncomputable def dx_x_compact_66 (k : Nat → Nat → Bool) (Jk : Nat → Nat → Nat → Bool) (c_x1 c_x2 c_x3 c_x4 c_z0 : Nat) (M : Nat) : Bool := dx_eq c_z0 0 (dx_x_compact_80 k Jk c_x1 c_x3 c_x4 c_z0 c_x2 M) (dx_fs (dx_add c_x2 1) (fun c1 => dx_x_compact_80 k Jk c_x1 c_x3 c_x4 c_z0 c1 M))
theorem ds_x_compact_66 {a b : Int32} (hab : dx_ab a b) {post : Int32 → St2 → Prop} {J15 : Int32 → Int32 → (Nat → Int32) → (Nat → Int32) → (Nat → Int32) → (Nat → Int32) → (Nat → Int32) → (Nat → Int32) → (Nat → Int32) → (Nat → Int32) → (Nat → Int32) → (Nat → Int32) → (Nat → Int32) → (Nat → Int32) → (Nat → Int32) → (Nat → Int32) → (Nat → Int32) → (Nat → Int32) → (Nat → Int32) → (Nat → Int32) → (Nat → Int32) → (Nat → Int32) → (Nat → Int32) → (Nat → Int32) → Prop} {x1 x2 x3 x4 z0 : Int32} {f0_made : Int32} {a1 a2 a3 a4 a5 a6 a7 a8 a9 a10 a11 a12 a13 a14 a15 a16 a17 a18 a19 a20 a21 a22 : Nat → Int32} {k : Nat → Nat → Bool} {Jk : Nat → Nat → Nat → Bool} {c_x1 c_x2 c_x3 c_x4 c_z0 : Nat} {M : Nat} (hk : ∀ (c : Nat) (r : Int32) (M : Nat) (u : St2), dx_v a b c r → dx_R a b M u → k c M = true → post r u) (hJ : ∀ {j0 j1 : Int32} {b1 b2 b3 b4 b5 b6 b7 b8 b9 b10 b11 b12 b13 b14 b15 b16 b17 b18 b19 b20 b21 b22 : Nat → Int32} {d0 d1 : Nat} {Mj : Nat}, dx_v a b d0 j0 → dx_v a b d1 j1 → dx_R a b Mj (f0_made, b1, b2, b3, b4, b5, b6, b7, b8, b9, b10, b11, b12, b13, b14, b15, b16, b17, b18, b19, b20, b21, b22) → Jk d0 d1 Mj = true → J15 j0 j1 b1 b2 b3 b4 b5 b6 b7 b8 b9 b10 b11 b12 b13 b14 b15 b16 b17 b18 b19 b20 b21 b22) (v_x1 : dx_v a b c_x1 x1) (v_x2 : dx_v a b c_x2 x2) (v_x3 : dx_v a b c_x3 x3) (v_x4 : dx_v a b c_x4 x4) (v_z0 : dx_v a b c_z0 z0) (hR : dx_R a b M (f0_made, a1, a2, a3, a4, a5, a6, a7, a8, a9, a10, a11, a12, a13, a14, a15, a16, a17, a18, a19, a20, a21, a22)) (h : dx_x_compact_66 k Jk c_x1 c_x2 c_x3 c_x4 c_z0 M = true) : wX_compact_66 post J15 x1 x2 x3 x4 z0 f0_made a1 a2 a3 a4 a5 a6 a7 a8 a9 a10 a11 a12 a13 a14 a15 a16 a17 a18 a19 a20 a21 a22 := by
  unfold dx_x_compact_66 at h
  refine dp_eq hab v_z0 (dv_n 0 (by decide)) h (fun h => ?_) (fun h => ?_)
  · exact ds_x_compact_80 hab hk (fun w0 w1 wR wh => hJ w0 w1 wR wh) v_x1 v_x3 v_x4 v_z0 v_x2 hR h
  · refine dp_fs (dv_add v_x2 (dv_n 1 (by decide))) h (fun c1 v1 h => ?_)
    exact ds_x_compact_80 hab hk (fun w0 w1 wR wh => hJ w0 w1 wR wh) v_x1 v_x3 v_x4 v_z0 v1 hR h
noncomputable def dx_x_compact_65 (k : Nat → Nat → Bool) (Jk : Nat → Nat → Nat → Bool) (c_x1 c_x2 c_x3 c_x4 : Nat) (M : Nat) : Bool := dx_x_compact_66 k Jk c_x1 c_x2 c_x3 c_x4 0 M
theorem ds_x_compact_65 {a b : Int32} (hab : dx_ab a b) {post : Int32 → St2 → Prop} {J15 : Int32 → Int32 → (Nat → Int32) → (Nat → Int32) → (Nat → Int32) → (Nat → Int32) → (Nat → Int32) → (Nat → Int32) → (Nat → Int32) → (Nat → Int32) → (Nat → Int32) → (Nat → Int32) → (Nat → Int32) → (Nat → Int32) → (Nat → Int32) → (Nat → Int32) → (Nat → Int32) → (Nat → Int32) → (Nat → Int32) → (Nat → Int32) → (Nat → Int32) → (Nat → Int32) → (Nat → Int32) → (Nat → Int32) → Prop} {x1 x2 x3 x4 : Int32} {f0_made : Int32} {a1 a2 a3 a4 a5 a6 a7 a8 a9 a10 a11 a12 a13 a14 a15 a16 a17 a18 a19 a20 a21 a22 : Nat → Int32} {k : Nat → Nat → Bool} {Jk : Nat → Nat → Nat → Bool} {c_x1 c_x2 c_x3 c_x4 : Nat} {M : Nat} (hk : ∀ (c : Nat) (r : Int32) (M : Nat) (u : St2), dx_v a b c r → dx_R a b M u → k c M = true → post r u) (hJ : ∀ {j0 j1 : Int32} {b1 b2 b3 b4 b5 b6 b7 b8 b9 b10 b11 b12 b13 b14 b15 b16 b17 b18 b19 b20 b21 b22 : Nat → Int32} {d0 d1 : Nat} {Mj : Nat}, dx_v a b d0 j0 → dx_v a b d1 j1 → dx_R a b Mj (f0_made, b1, b2, b3, b4, b5, b6, b7, b8, b9, b10, b11, b12, b13, b14, b15, b16, b17, b18, b19, b20, b21, b22) → Jk d0 d1 Mj = true → J15 j0 j1 b1 b2 b3 b4 b5 b6 b7 b8 b9 b10 b11 b12 b13 b14 b15 b16 b17 b18 b19 b20 b21 b22) (v_x1 : dx_v a b c_x1 x1) (v_x2 : dx_v a b c_x2 x2) (v_x3 : dx_v a b c_x3 x3) (v_x4 : dx_v a b c_x4 x4) (hR : dx_R a b M (f0_made, a1, a2, a3, a4, a5, a6, a7, a8, a9, a10, a11, a12, a13, a14, a15, a16, a17, a18, a19, a20, a21, a22)) (h : dx_x_compact_65 k Jk c_x1 c_x2 c_x3 c_x4 M = true) : wX_compact_65 post J15 x1 x2 x3 x4 f0_made a1 a2 a3 a4 a5 a6 a7 a8 a9 a10 a11 a12 a13 a14 a15 a16 a17 a18 a19 a20 a21 a22 := by
  unfold dx_x_compact_65 at h
  unfold wX_compact_65
  exact ds_x_compact_66 hab hk (fun w0 w1 wR wh => hJ w0 w1 wR wh) v_x1 v_x2 v_x3 v_x4 (dv_n 0 (by decide)) hR h
noncomputable def dx_x_compact_15_b (k : Nat → Nat → Bool) (c_x1 : Nat) (ih : Nat → Nat → Nat → Bool) (c_x2 c_x3 M : Nat) : Bool := dx_fs (dx_ce M 0) (fun c1 => dx_le c1 c_x3 (k c_x2 M) (dx_fs (dx_add (dx_mul 80 c_x1) c_x3) (fun c_x4_4 => dx_in c_x4_4 240 (dx_fs (dx_ce M (Nat.add 569 c_x4_4)) (fun c3 => dx_eq c3 0 (dx_x_compact_65 k ih c_x1 c_x2 c_x3 c_x4_4 M) (dx_fs (dx_ce M (Nat.add 1049 c_x4_4)) (fun c4 => dx_eq c4 0 (dx_x_compact_65 k ih c_x1 c_x2 c_x3 c_x4_4 M) (dx_fs (dx_ce M (Nat.add 809 c_x4_4)) (fun c5 => dx_le c5 0 (dx_x_compact_65 k ih c_x1 c_x2 c_x3 c_x4_4 M) (dx_x_compact_66 k ih c_x1 c_x2 c_x3 c_x4_4 1 M))))))))))
noncomputable def dx_x_compact_15 (k : Nat → Nat → Bool) (c_x1 : Nat) (n : Nat) : Nat → Nat → Nat → Bool := Nat.rec (motive := fun _ => Nat → Nat → Nat → Bool) (fun _ _ _ => false) (fun _ ih => dx_x_compact_15_b k c_x1 ih) n
theorem ds_x_compact_15 {a b : Int32} (hab : dx_ab a b) {post : Int32 → St2 → Prop} {x1 : Int32} {f0_made : Int32} {k : Nat → Nat → Bool} {c_x1 : Nat} (hk : ∀ (c : Nat) (r : Int32) (M : Nat) (u : St2), dx_v a b c r → dx_R a b M u → k c M = true → post r u) (v_x1 : dx_v a b c_x1 x1) : ∀ (n : Nat) {x2 x3 : Int32} {a1 a2 a3 a4 a5 a6 a7 a8 a9 a10 a11 a12 a13 a14 a15 a16 a17 a18 a19 a20 a21 a22 : Nat → Int32} {c_x2 c_x3 : Nat} {M : Nat}, dx_v a b c_x2 x2 → dx_v a b c_x3 x3 → dx_R a b M (f0_made, a1, a2, a3, a4, a5, a6, a7, a8, a9, a10, a11, a12, a13, a14, a15, a16, a17, a18, a19, a20, a21, a22) → dx_x_compact_15 k c_x1 n c_x2 c_x3 M = true → wX_compact_15 post x1 f0_made n x2 x3 a1 a2 a3 a4 a5 a6 a7 a8 a9 a10 a11 a12 a13 a14 a15 a16 a17 a18 a19 a20 a21 a22 := by
  intro n
  induction n with
  | zero =>
    intro x2 x3 a1 a2 a3 a4 a5 a6 a7 a8 a9 a10 a11 a12 a13 a14 a15 a16 a17 a18 a19 a20 a21 a22 c_x2 c_x3 M v_x2 v_x3 hR h
    exact absurd (show false = true from h) (by decide)
  | succ n ih =>
    intro x2 x3 a1 a2 a3 a4 a5 a6 a7 a8 a9 a10 a11 a12 a13 a14 a15 a16 a17 a18 a19 a20 a21 a22 c_x2 c_x3 M v_x2 v_x3 hR h
    replace h : dx_x_compact_15_b k c_x1 (dx_x_compact_15 k c_x1 n) c_x2 c_x3 M = true := h
    unfold dx_x_compact_15_b at h
    refine dp_fs (dr_g0 hR) h (fun c1 v1 h => ?_)
    refine dp_le hab v1 v_x3 h (fun h => ?_) (fun h => ?_)
    · exact hk _ _ _ _ v_x2 hR h
    · intro x4_4 e_x4_4
      refine dp_fs (dv_of e_x4_4 (dv_add (dv_mul (dv_n 80 (by decide)) v_x1) v_x3)) h (fun c_x4_4 v_x4_4 h => ?_)
      refine dp_in (by decide) v_x4_4 h (fun l2 h => ?_)
      refine dp_fs (dr_g9 hR v_x4_4 l2) h (fun c3 v3 h => ?_)
      refine dp_eq hab v3 (dv_n 0 (by decide)) h (fun h => ?_) (fun h => ?_)
      · exact ds_x_compact_65 hab hk (fun w0 w1 wR wh => ih w0 w1 wR wh) v_x1 v_x2 v_x3 v_x4_4 hR h
      · refine ⟨dv_in v_x4_4 l2 (by decide), ?_⟩
        refine dp_fs (dr_g11 hR v_x4_4 l2) h (fun c4 v4 h => ?_)
        refine dp_eq hab v4 (dv_n 0 (by decide)) h (fun h => ?_) (fun h => ?_)
        · exact ds_x_compact_65 hab hk (fun w0 w1 wR wh => ih w0 w1 wR wh) v_x1 v_x2 v_x3 v_x4_4 hR h
        · refine ⟨dv_in v_x4_4 l2 (by decide), ?_⟩
          refine dp_fs (dr_g10 hR v_x4_4 l2) h (fun c5 v5 h => ?_)
          refine dp_le hab v5 (dv_n 0 (by decide)) h (fun h => ?_) (fun h => ?_)
          · exact ds_x_compact_65 hab hk (fun w0 w1 wR wh => ih w0 w1 wR wh) v_x1 v_x2 v_x3 v_x4_4 hR h
          · exact ds_x_compact_66 hab hk (fun w0 w1 wR wh => ih w0 w1 wR wh) v_x1 v_x2 v_x3 v_x4_4 (dv_n 1 (by decide)) hR h
noncomputable def dx_px_compact (k : Nat → Nat → Bool) (c_p0 : Nat) (M : Nat) : Bool := dx_px_badStore (fun c_r_1 => dx_eq c_r_1 0 (dx_x_compact_15 k c_p0 100 0 0 M) (k 8193 M)) c_p0 M
theorem ds_px_compact {a b : Int32} (hab : dx_ab a b) {post : Int32 → St2 → Prop} {p0 : Int32} {u : St2} {k : Nat → Nat → Bool} {c_p0 : Nat} {M : Nat} (hk : ∀ (c : Nat) (r : Int32) (M : Nat) (u : St2), dx_v a b c r → dx_R a b M u → k c M = true → post r u) (v_p0 : dx_v a b c_p0 p0) (hR : dx_R a b M u) (h : dx_px_compact k c_p0 M = true) : wpX_compact post u p0 := by
  unfold dx_px_compact at h
  obtain ⟨f0_made, a1, a2, a3, a4, a5, a6, a7, a8, a9, a10, a11, a12, a13, a14, a15, a16, a17, a18, a19, a20, a21, a22⟩ := u
  unfold wpX_compact
  refine ds_px_badStore hab ?_ v_p0 hR h
  intro c_r_1 r_1 v_r_1 h
  refine dp_eq hab v_r_1 (dv_n 0 (by decide)) h (fun h => ?_) (fun h => ?_)
  · refine ⟨100, ?_⟩
    exact ds_x_compact_15 hab hk v_p0 100 (dv_n 0 (by decide)) (dv_n 0 (by decide)) hR h
  · exact hk _ _ _ _ dv_m1000000001 hR h
noncomputable def dx_px_delete (k : Nat → Nat → Bool) (c_p0 c_p1 c_p2 : Nat) (M : Nat) : Bool := dx_px_badStore (fun c_r_1 => dx_eq c_r_1 0 (dx_px_badDocument (fun c_r_3 => dx_eq c_r_3 0 (dx_px_noLeaf (fun c_r_5 => dx_eq c_r_5 0 (dx_px_leafAt (fun c_r_7 => dx_in c_r_7 80 (dx_fs (dx_ce M (Nat.add 241 c_r_7)) (fun c2 => dx_eq c2 0 (dx_px_leafAt (fun c_r_10 => dx_px_change (fun c_r_11 M3 => k c_r_11 M3) c_p0 c_p1 c_r_10 0 1 M) c_p0 c_p1 c_p2 M) (k 8195 M)))) c_p0 c_p1 c_p2 M) (k 8195 M)) c_p0 c_p1 c_p2 M) (k 8193 M)) c_p1 M) (k 8193 M)) c_p0 M
theorem ds_px_delete {a b : Int32} (hab : dx_ab a b) {post : Int32 → St2 → Prop} {p0 p1 p2 : Int32} {u : St2} {k : Nat → Nat → Bool} {c_p0 c_p1 c_p2 : Nat} {M : Nat} (hk : ∀ (c : Nat) (r : Int32) (M : Nat) (u : St2), dx_v a b c r → dx_R a b M u → k c M = true → post r u) (v_p0 : dx_v a b c_p0 p0) (v_p1 : dx_v a b c_p1 p1) (v_p2 : dx_v a b c_p2 p2) (hR : dx_R a b M u) (h : dx_px_delete k c_p0 c_p1 c_p2 M = true) : wpX_delete post u p0 p1 p2 := by
  unfold dx_px_delete at h
  obtain ⟨f0_made, a1, a2, a3, a4, a5, a6, a7, a8, a9, a10, a11, a12, a13, a14, a15, a16, a17, a18, a19, a20, a21, a22⟩ := u
  unfold wpX_delete
  refine ds_px_badStore hab ?_ v_p0 hR h
  intro c_r_1 r_1 v_r_1 h
  refine dp_eq hab v_r_1 (dv_n 0 (by decide)) h (fun h => ?_) (fun h => ?_)
  · refine ds_px_badDocument hab ?_ v_p1 hR h
    intro c_r_3 r_3 v_r_3 h
    refine dp_eq hab v_r_3 (dv_n 0 (by decide)) h (fun h => ?_) (fun h => ?_)
    · refine ds_px_noLeaf hab ?_ v_p0 v_p1 v_p2 hR h
      intro c_r_5 r_5 v_r_5 h
      refine dp_eq hab v_r_5 (dv_n 0 (by decide)) h (fun h => ?_) (fun h => ?_)
      · refine ds_px_leafAt hab ?_ v_p0 v_p1 v_p2 hR h
        intro c_r_7 r_7 v_r_7 h
        refine dp_in (by decide) v_r_7 h (fun l1 h => ?_)
        refine dp_fs (dr_g4 hR v_r_7 l1) h (fun c2 v2 h => ?_)
        refine dp_eq hab v2 (dv_n 0 (by decide)) h (fun h => ?_) (fun h => ?_)
        · refine ds_px_leafAt hab ?_ v_p0 v_p1 v_p2 hR h
          intro c_r_10 r_10 v_r_10 h
          refine ds_px_change hab ?_ v_p0 v_p1 v_r_10 (dv_n 0 (by decide)) (dv_n 1 (by decide)) hR h
          intro c_r_11 r_11 M3 u3 v_r_11 R3 h
          obtain ⟨f0_made_12, am631_15, am632_18, am633_21, am634_24, am635_27, am636_30, am637_33, am638_36, am639_39, am6310_42, am6311_45, am6312_48, am6313_51, am6314_54, am6315_57, am6316_60, am6317_63, am6318_66, am6319_69, am6320_72, am6321_75, am6322_78⟩ := u3
          exact hk _ _ _ _ v_r_11 R3 h
        · exact hk _ _ _ _ dv_m1000000003 hR h
      · exact hk _ _ _ _ dv_m1000000003 hR h
    · exact hk _ _ _ _ dv_m1000000001 hR h
  · exact hk _ _ _ _ dv_m1000000001 hR h
noncomputable def dx_px_leaf (k : Nat → Bool) (c_p0 c_p1 c_p2 : Nat) (M : Nat) : Bool := dx_px_badStore (fun c_r_1 => dx_eq c_r_1 0 (dx_px_badDocument (fun c_r_3 => dx_eq c_r_3 0 (dx_px_noLeaf (fun c_r_5 => dx_eq c_r_5 0 (dx_px_leafAt (fun c_r_7 => k c_r_7) c_p0 c_p1 c_p2 M) (k 8195)) c_p0 c_p1 c_p2 M) (k 8193)) c_p1 M) (k 8193)) c_p0 M
theorem ds_px_leaf {a b : Int32} (hab : dx_ab a b) {post : Int32 → Prop} {p0 p1 p2 : Int32} {u : St2} {k : Nat → Bool} {c_p0 c_p1 c_p2 : Nat} {M : Nat} (hk : ∀ (c : Nat) (r : Int32), dx_v a b c r → k c = true → post r) (v_p0 : dx_v a b c_p0 p0) (v_p1 : dx_v a b c_p1 p1) (v_p2 : dx_v a b c_p2 p2) (hR : dx_R a b M u) (h : dx_px_leaf k c_p0 c_p1 c_p2 M = true) : wpX_leaf post u p0 p1 p2 := by
  unfold dx_px_leaf at h
  obtain ⟨f0_made, a1, a2, a3, a4, a5, a6, a7, a8, a9, a10, a11, a12, a13, a14, a15, a16, a17, a18, a19, a20, a21, a22⟩ := u
  unfold wpX_leaf
  refine ds_px_badStore hab ?_ v_p0 hR h
  intro c_r_1 r_1 v_r_1 h
  refine dp_eq hab v_r_1 (dv_n 0 (by decide)) h (fun h => ?_) (fun h => ?_)
  · refine ds_px_badDocument hab ?_ v_p1 hR h
    intro c_r_3 r_3 v_r_3 h
    refine dp_eq hab v_r_3 (dv_n 0 (by decide)) h (fun h => ?_) (fun h => ?_)
    · refine ds_px_noLeaf hab ?_ v_p0 v_p1 v_p2 hR h
      intro c_r_5 r_5 v_r_5 h
      refine dp_eq hab v_r_5 (dv_n 0 (by decide)) h (fun h => ?_) (fun h => ?_)
      · refine ds_px_leafAt hab ?_ v_p0 v_p1 v_p2 hR h
        intro c_r_7 r_7 v_r_7 h
        exact hk _ _ v_r_7 h
      · exact hk _ _ dv_m1000000003 h
    · exact hk _ _ dv_m1000000001 h
  · exact hk _ _ dv_m1000000001 h
noncomputable def dx_px_leaves (k : Nat → Bool) (c_p0 c_p1 : Nat) (M : Nat) : Bool := dx_px_badStore (fun c_r_1 => dx_eq c_r_1 0 (dx_px_badDocument (fun c_r_3 => dx_eq c_r_3 0 (dx_fs (dx_add (dx_mul 8 c_p0) c_p1) (fun c1 => dx_in c1 24 (dx_fs (dx_ce M (Nat.add 1289 c1)) (fun c3 => k c3)))) (k 8193)) c_p1 M) (k 8193)) c_p0 M
theorem ds_px_leaves {a b : Int32} (hab : dx_ab a b) {post : Int32 → Prop} {p0 p1 : Int32} {u : St2} {k : Nat → Bool} {c_p0 c_p1 : Nat} {M : Nat} (hk : ∀ (c : Nat) (r : Int32), dx_v a b c r → k c = true → post r) (v_p0 : dx_v a b c_p0 p0) (v_p1 : dx_v a b c_p1 p1) (hR : dx_R a b M u) (h : dx_px_leaves k c_p0 c_p1 M = true) : wpX_leaves post u p0 p1 := by
  unfold dx_px_leaves at h
  obtain ⟨f0_made, a1, a2, a3, a4, a5, a6, a7, a8, a9, a10, a11, a12, a13, a14, a15, a16, a17, a18, a19, a20, a21, a22⟩ := u
  unfold wpX_leaves
  refine ds_px_badStore hab ?_ v_p0 hR h
  intro c_r_1 r_1 v_r_1 h
  refine dp_eq hab v_r_1 (dv_n 0 (by decide)) h (fun h => ?_) (fun h => ?_)
  · refine ds_px_badDocument hab ?_ v_p1 hR h
    intro c_r_3 r_3 v_r_3 h
    refine dp_eq hab v_r_3 (dv_n 0 (by decide)) h (fun h => ?_) (fun h => ?_)
    · refine dp_fs (dv_add (dv_mul (dv_n 8 (by decide)) v_p0) v_p1) h (fun c1 v1 h => ?_)
      refine dp_in (by decide) v1 h (fun l2 h => ?_)
      refine dp_fs (dr_g12 hR v1 l2) h (fun c3 v3 h => ?_)
      exact hk _ _ v3 h
    · exact hk _ _ dv_m1000000001 h
  · exact hk _ _ dv_m1000000001 h
noncomputable def dx_x_openLeaves_5_b (k : Nat → Bool) (c_x1 c_x2 : Nat) (M : Nat) (ih : Nat → Nat → Bool) (c_x3 c_x4 : Nat) : Bool := dx_fs (dx_add (dx_mul 8 c_x1) c_x2) (fun c1 => dx_in c1 24 (dx_fs (dx_ce M (Nat.add 1289 c1)) (fun c3 => dx_le c3 c_x4 (k c_x3) (dx_px_leafAt (fun c_r_3 => dx_in c_r_3 80 (dx_fs (dx_ce M (Nat.add 241 c_r_3)) (fun c5 => dx_eq c5 0 (dx_fs (dx_add c_x3 1) (fun c_x3_6 => dx_fs (dx_add c_x4 1) (fun c_x4_7 => ih c_x3_6 c_x4_7))) (dx_fs (dx_add c_x4 1) (fun c_x4_8 => ih c_x3 c_x4_8))))) c_x1 c_x2 c_x4 M))))
noncomputable def dx_x_openLeaves_5 (k : Nat → Bool) (c_x1 c_x2 : Nat) (M : Nat) (n : Nat) : Nat → Nat → Bool := Nat.rec (motive := fun _ => Nat → Nat → Bool) (fun _ _ => false) (fun _ ih => dx_x_openLeaves_5_b k c_x1 c_x2 M ih) n
theorem ds_x_openLeaves_5 {a b : Int32} (hab : dx_ab a b) {post : Int32 → Prop} {x1 x2 : Int32} {f0_made : Int32} {a1 a2 a3 a4 a5 a6 a7 a8 a9 a10 a11 a12 a13 a14 a15 a16 a17 a18 a19 a20 a21 a22 : Nat → Int32} {k : Nat → Bool} {c_x1 c_x2 : Nat} {M : Nat} (hk : ∀ (c : Nat) (r : Int32), dx_v a b c r → k c = true → post r) (v_x1 : dx_v a b c_x1 x1) (v_x2 : dx_v a b c_x2 x2) (hR : dx_R a b M (f0_made, a1, a2, a3, a4, a5, a6, a7, a8, a9, a10, a11, a12, a13, a14, a15, a16, a17, a18, a19, a20, a21, a22)) : ∀ (n : Nat) {x3 x4 : Int32} {c_x3 c_x4 : Nat}, dx_v a b c_x3 x3 → dx_v a b c_x4 x4 → dx_x_openLeaves_5 k c_x1 c_x2 M n c_x3 c_x4 = true → wX_openLeaves_5 post x1 x2 f0_made a1 a2 a3 a4 a5 a6 a7 a8 a9 a10 a11 a12 a13 a14 a15 a16 a17 a18 a19 a20 a21 a22 n x3 x4 := by
  intro n
  induction n with
  | zero =>
    intro x3 x4 c_x3 c_x4 v_x3 v_x4 h
    exact absurd (show false = true from h) (by decide)
  | succ n ih =>
    intro x3 x4 c_x3 c_x4 v_x3 v_x4 h
    replace h : dx_x_openLeaves_5_b k c_x1 c_x2 M (dx_x_openLeaves_5 k c_x1 c_x2 M n) c_x3 c_x4 = true := h
    unfold dx_x_openLeaves_5_b at h
    refine dp_fs (dv_add (dv_mul (dv_n 8 (by decide)) v_x1) v_x2) h (fun c1 v1 h => ?_)
    refine dp_in (by decide) v1 h (fun l2 h => ?_)
    refine dp_fs (dr_g12 hR v1 l2) h (fun c3 v3 h => ?_)
    refine dp_le hab v3 v_x4 h (fun h => ?_) (fun h => ?_)
    · exact hk _ _ v_x3 h
    · refine ds_px_leafAt hab ?_ v_x1 v_x2 v_x4 hR h
      intro c_r_3 r_3 v_r_3 h
      refine dp_in (by decide) v_r_3 h (fun l4 h => ?_)
      refine dp_fs (dr_g4 hR v_r_3 l4) h (fun c5 v5 h => ?_)
      refine dp_eq hab v5 (dv_n 0 (by decide)) h (fun h => ?_) (fun h => ?_)
      · intro x3_6 e_x3_6
        refine dp_fs (dv_of e_x3_6 (dv_add v_x3 (dv_n 1 (by decide)))) h (fun c_x3_6 v_x3_6 h => ?_)
        intro x4_7 e_x4_7
        refine dp_fs (dv_of e_x4_7 (dv_add v_x4 (dv_n 1 (by decide)))) h (fun c_x4_7 v_x4_7 h => ?_)
        exact ih v_x3_6 v_x4_7 h
      · intro x4_8 e_x4_8
        refine dp_fs (dv_of e_x4_8 (dv_add v_x4 (dv_n 1 (by decide)))) h (fun c_x4_8 v_x4_8 h => ?_)
        exact ih v_x3 v_x4_8 h
noncomputable def dx_px_openLeaves (k : Nat → Bool) (c_p0 c_p1 : Nat) (M : Nat) : Bool := dx_x_openLeaves_5 k c_p0 c_p1 M 100 0 0
theorem ds_px_openLeaves {a b : Int32} (hab : dx_ab a b) {post : Int32 → Prop} {p0 p1 : Int32} {u : St2} {k : Nat → Bool} {c_p0 c_p1 : Nat} {M : Nat} (hk : ∀ (c : Nat) (r : Int32), dx_v a b c r → k c = true → post r) (v_p0 : dx_v a b c_p0 p0) (v_p1 : dx_v a b c_p1 p1) (hR : dx_R a b M u) (h : dx_px_openLeaves k c_p0 c_p1 M = true) : wpX_openLeaves post u p0 p1 := by
  unfold dx_px_openLeaves at h
  obtain ⟨f0_made, a1, a2, a3, a4, a5, a6, a7, a8, a9, a10, a11, a12, a13, a14, a15, a16, a17, a18, a19, a20, a21, a22⟩ := u
  refine ⟨100, ?_⟩
  exact ds_x_openLeaves_5 hab hk v_p0 v_p1 hR 100 (dv_n 0 (by decide)) (dv_n 0 (by decide)) h
noncomputable def dx_x_conflicts_15_b (k : Nat → Bool) (c_x1 : Nat) (M : Nat) (ih : Nat → Nat → Bool) (c_x2 c_x3 : Nat) : Bool := dx_le 8 c_x3 (k c_x2) (dx_px_openLeaves (fun c_r_4 => dx_le c_r_4 1 (dx_fs (dx_add c_x3 1) (fun c_x3_6 => ih c_x2 c_x3_6)) (dx_fs (dx_add c_x2 1) (fun c_x2_7 => dx_fs (dx_add c_x3 1) (fun c_x3_8 => ih c_x2_7 c_x3_8)))) c_x1 c_x3 M)
noncomputable def dx_x_conflicts_15 (k : Nat → Bool) (c_x1 : Nat) (M : Nat) (n : Nat) : Nat → Nat → Bool := Nat.rec (motive := fun _ => Nat → Nat → Bool) (fun _ _ => false) (fun _ ih => dx_x_conflicts_15_b k c_x1 M ih) n
theorem ds_x_conflicts_15 {a b : Int32} (hab : dx_ab a b) {post : Int32 → Prop} {x1 : Int32} {f0_made : Int32} {a1 a2 a3 a4 a5 a6 a7 a8 a9 a10 a11 a12 a13 a14 a15 a16 a17 a18 a19 a20 a21 a22 : Nat → Int32} {k : Nat → Bool} {c_x1 : Nat} {M : Nat} (hk : ∀ (c : Nat) (r : Int32), dx_v a b c r → k c = true → post r) (v_x1 : dx_v a b c_x1 x1) (hR : dx_R a b M (f0_made, a1, a2, a3, a4, a5, a6, a7, a8, a9, a10, a11, a12, a13, a14, a15, a16, a17, a18, a19, a20, a21, a22)) : ∀ (n : Nat) {x2 x3 : Int32} {c_x2 c_x3 : Nat}, dx_v a b c_x2 x2 → dx_v a b c_x3 x3 → dx_x_conflicts_15 k c_x1 M n c_x2 c_x3 = true → wX_conflicts_15 post x1 f0_made a1 a2 a3 a4 a5 a6 a7 a8 a9 a10 a11 a12 a13 a14 a15 a16 a17 a18 a19 a20 a21 a22 n x2 x3 := by
  intro n
  induction n with
  | zero =>
    intro x2 x3 c_x2 c_x3 v_x2 v_x3 h
    exact absurd (show false = true from h) (by decide)
  | succ n ih =>
    intro x2 x3 c_x2 c_x3 v_x2 v_x3 h
    replace h : dx_x_conflicts_15_b k c_x1 M (dx_x_conflicts_15 k c_x1 M n) c_x2 c_x3 = true := h
    unfold dx_x_conflicts_15_b at h
    refine dp_le hab (dv_n 8 (by decide)) v_x3 h (fun h => ?_) (fun h => ?_)
    · exact hk _ _ v_x2 h
    · refine ds_px_openLeaves hab ?_ v_x1 v_x3 hR h
      intro c_r_4 r_4 v_r_4 h
      refine dp_le hab v_r_4 (dv_n 1 (by decide)) h (fun h => ?_) (fun h => ?_)
      · intro x3_6 e_x3_6
        refine dp_fs (dv_of e_x3_6 (dv_add v_x3 (dv_n 1 (by decide)))) h (fun c_x3_6 v_x3_6 h => ?_)
        exact ih v_x2 v_x3_6 h
      · intro x2_7 e_x2_7
        refine dp_fs (dv_of e_x2_7 (dv_add v_x2 (dv_n 1 (by decide)))) h (fun c_x2_7 v_x2_7 h => ?_)
        intro x3_8 e_x3_8
        refine dp_fs (dv_of e_x3_8 (dv_add v_x3 (dv_n 1 (by decide)))) h (fun c_x3_8 v_x3_8 h => ?_)
        exact ih v_x2_7 v_x3_8 h
noncomputable def dx_px_conflicts (k : Nat → Bool) (c_p0 : Nat) (M : Nat) : Bool := dx_px_badStore (fun c_r_1 => dx_eq c_r_1 0 (dx_x_conflicts_15 k c_p0 M 100 0 0) (k 8193)) c_p0 M
theorem ds_px_conflicts {a b : Int32} (hab : dx_ab a b) {post : Int32 → Prop} {p0 : Int32} {u : St2} {k : Nat → Bool} {c_p0 : Nat} {M : Nat} (hk : ∀ (c : Nat) (r : Int32), dx_v a b c r → k c = true → post r) (v_p0 : dx_v a b c_p0 p0) (hR : dx_R a b M u) (h : dx_px_conflicts k c_p0 M = true) : wpX_conflicts post u p0 := by
  unfold dx_px_conflicts at h
  obtain ⟨f0_made, a1, a2, a3, a4, a5, a6, a7, a8, a9, a10, a11, a12, a13, a14, a15, a16, a17, a18, a19, a20, a21, a22⟩ := u
  unfold wpX_conflicts
  refine ds_px_badStore hab ?_ v_p0 hR h
  intro c_r_1 r_1 v_r_1 h
  refine dp_eq hab v_r_1 (dv_n 0 (by decide)) h (fun h => ?_) (fun h => ?_)
  · refine ⟨100, ?_⟩
    exact ds_x_conflicts_15 hab hk v_p0 hR 100 (dv_n 0 (by decide)) (dv_n 0 (by decide)) h
  · exact hk _ _ dv_m1000000001 h
noncomputable def dx_x_total_15_b (k : Nat → Bool) (c_x1 : Nat) (M : Nat) (ih : Nat → Nat → Bool) (c_x2 c_x3 : Nat) : Bool := dx_in c_x1 3 (dx_fs (dx_ce M (Nat.add 3269 c_x1)) (fun c2 => dx_le c2 c_x3 (k c_x2) (dx_fs (dx_add (dx_mul 8 c_x1) c_x3) (fun c3 => dx_in c3 24 (dx_fs (dx_add (dx_mul 8 c_x1) (dx_ce M (Nat.add 3272 c3))) (fun c5 => dx_in c5 24 (dx_fs (dx_add c_x2 (dx_ce M (Nat.add 3320 c5))) (fun c_x2_7 => dx_fs (dx_add c_x3 1) (fun c_x3_8 => ih c_x2_7 c_x3_8)))))))))
noncomputable def dx_x_total_15 (k : Nat → Bool) (c_x1 : Nat) (M : Nat) (n : Nat) : Nat → Nat → Bool := Nat.rec (motive := fun _ => Nat → Nat → Bool) (fun _ _ => false) (fun _ ih => dx_x_total_15_b k c_x1 M ih) n
theorem ds_x_total_15 {a b : Int32} (hab : dx_ab a b) {post : Int32 → Prop} {x1 : Int32} {f0_made : Int32} {a1 a2 a3 a4 a5 a6 a7 a8 a9 a10 a11 a12 a13 a14 a15 a16 a17 a18 a19 a20 a21 a22 : Nat → Int32} {k : Nat → Bool} {c_x1 : Nat} {M : Nat} (hk : ∀ (c : Nat) (r : Int32), dx_v a b c r → k c = true → post r) (v_x1 : dx_v a b c_x1 x1) (hR : dx_R a b M (f0_made, a1, a2, a3, a4, a5, a6, a7, a8, a9, a10, a11, a12, a13, a14, a15, a16, a17, a18, a19, a20, a21, a22)) : ∀ (n : Nat) {x2 x3 : Int32} {c_x2 c_x3 : Nat}, dx_v a b c_x2 x2 → dx_v a b c_x3 x3 → dx_x_total_15 k c_x1 M n c_x2 c_x3 = true → wX_total_15 post x1 f0_made a1 a2 a3 a4 a5 a6 a7 a8 a9 a10 a11 a12 a13 a14 a15 a16 a17 a18 a19 a20 a21 a22 n x2 x3 := by
  intro n
  induction n with
  | zero =>
    intro x2 x3 c_x2 c_x3 v_x2 v_x3 h
    exact absurd (show false = true from h) (by decide)
  | succ n ih =>
    intro x2 x3 c_x2 c_x3 v_x2 v_x3 h
    replace h : dx_x_total_15_b k c_x1 M (dx_x_total_15 k c_x1 M n) c_x2 c_x3 = true := h
    unfold dx_x_total_15_b at h
    refine dp_in (by decide) v_x1 h (fun l1 h => ?_)
    refine dp_fs (dr_g17 hR v_x1 l1) h (fun c2 v2 h => ?_)
    refine dp_le hab v2 v_x3 h (fun h => ?_) (fun h => ?_)
    · exact hk _ _ v_x2 h
    · refine dp_fs (dv_add (dv_mul (dv_n 8 (by decide)) v_x1) v_x3) h (fun c3 v3 h => ?_)
      refine dp_in (by decide) v3 h (fun l4 h => ?_)
      refine dp_fs (dv_add (dv_mul (dv_n 8 (by decide)) v_x1) (dr_g18 hR v3 l4)) h (fun c5 v5 h => ?_)
      refine dp_in (by decide) v5 h (fun l6 h => ?_)
      intro x2_7 e_x2_7
      refine dp_fs (dv_of e_x2_7 (dv_add v_x2 (dr_g20 hR v5 l6))) h (fun c_x2_7 v_x2_7 h => ?_)
      intro x3_8 e_x3_8
      refine dp_fs (dv_of e_x3_8 (dv_add v_x3 (dv_n 1 (by decide)))) h (fun c_x3_8 v_x3_8 h => ?_)
      exact ih v_x2_7 v_x3_8 h
noncomputable def dx_px_total (k : Nat → Bool) (c_p0 : Nat) (M : Nat) : Bool := dx_px_badStore (fun c_r_1 => dx_eq c_r_1 0 (dx_x_total_15 k c_p0 M 100 0 0) (k 8193)) c_p0 M
theorem ds_px_total {a b : Int32} (hab : dx_ab a b) {post : Int32 → Prop} {p0 : Int32} {u : St2} {k : Nat → Bool} {c_p0 : Nat} {M : Nat} (hk : ∀ (c : Nat) (r : Int32), dx_v a b c r → k c = true → post r) (v_p0 : dx_v a b c_p0 p0) (hR : dx_R a b M u) (h : dx_px_total k c_p0 M = true) : wpX_total post u p0 := by
  unfold dx_px_total at h
  obtain ⟨f0_made, a1, a2, a3, a4, a5, a6, a7, a8, a9, a10, a11, a12, a13, a14, a15, a16, a17, a18, a19, a20, a21, a22⟩ := u
  unfold wpX_total
  refine ds_px_badStore hab ?_ v_p0 hR h
  intro c_r_1 r_1 v_r_1 h
  refine dp_eq hab v_r_1 (dv_n 0 (by decide)) h (fun h => ?_) (fun h => ?_)
  · refine ⟨100, ?_⟩
    exact ds_x_total_15 hab hk v_p0 hR 100 (dv_n 0 (by decide)) (dv_n 0 (by decide)) h
  · exact hk _ _ dv_m1000000001 h
noncomputable def dx_px_size (k : Nat → Bool) (c_p0 : Nat) (M : Nat) : Bool := dx_px_badStore (fun c_r_1 => dx_eq c_r_1 0 (dx_in c_p0 3 (dx_fs (dx_ce M (Nat.add 3269 c_p0)) (fun c2 => k c2))) (k 8193)) c_p0 M
theorem ds_px_size {a b : Int32} (hab : dx_ab a b) {post : Int32 → Prop} {p0 : Int32} {u : St2} {k : Nat → Bool} {c_p0 : Nat} {M : Nat} (hk : ∀ (c : Nat) (r : Int32), dx_v a b c r → k c = true → post r) (v_p0 : dx_v a b c_p0 p0) (hR : dx_R a b M u) (h : dx_px_size k c_p0 M = true) : wpX_size post u p0 := by
  unfold dx_px_size at h
  obtain ⟨f0_made, a1, a2, a3, a4, a5, a6, a7, a8, a9, a10, a11, a12, a13, a14, a15, a16, a17, a18, a19, a20, a21, a22⟩ := u
  unfold wpX_size
  refine ds_px_badStore hab ?_ v_p0 hR h
  intro c_r_1 r_1 v_r_1 h
  refine dp_eq hab v_r_1 (dv_n 0 (by decide)) h (fun h => ?_) (fun h => ?_)
  · refine dp_in (by decide) v_p0 h (fun l1 h => ?_)
    refine dp_fs (dr_g17 hR v_p0 l1) h (fun c2 v2 h => ?_)
    exact hk _ _ v2 h
  · exact hk _ _ dv_m1000000001 h
noncomputable def dx_px_viewed (k : Nat → Bool) (c_p0 c_p1 : Nat) (M : Nat) : Bool := dx_px_badStore (fun c_r_1 => dx_eq c_r_1 0 (dx_ls c_p1 0 (k 8195) (dx_in c_p0 3 (dx_fs (dx_ce M (Nat.add 3269 c_p0)) (fun c2 => dx_ls c_p1 c2 (dx_fs (dx_add (dx_mul 8 c_p0) c_p1) (fun c3 => dx_in c3 24 (dx_fs (dx_ce M (Nat.add 3272 c3)) (fun c5 => k c5)))) (k 8195))))) (k 8193)) c_p0 M
theorem ds_px_viewed {a b : Int32} (hab : dx_ab a b) {post : Int32 → Prop} {p0 p1 : Int32} {u : St2} {k : Nat → Bool} {c_p0 c_p1 : Nat} {M : Nat} (hk : ∀ (c : Nat) (r : Int32), dx_v a b c r → k c = true → post r) (v_p0 : dx_v a b c_p0 p0) (v_p1 : dx_v a b c_p1 p1) (hR : dx_R a b M u) (h : dx_px_viewed k c_p0 c_p1 M = true) : wpX_viewed post u p0 p1 := by
  unfold dx_px_viewed at h
  obtain ⟨f0_made, a1, a2, a3, a4, a5, a6, a7, a8, a9, a10, a11, a12, a13, a14, a15, a16, a17, a18, a19, a20, a21, a22⟩ := u
  unfold wpX_viewed
  refine ds_px_badStore hab ?_ v_p0 hR h
  intro c_r_1 r_1 v_r_1 h
  refine dp_eq hab v_r_1 (dv_n 0 (by decide)) h (fun h => ?_) (fun h => ?_)
  · refine dp_ls hab v_p1 (dv_n 0 (by decide)) h (fun h => ?_) (fun h => ?_)
    · exact hk _ _ dv_m1000000003 h
    · refine dp_in (by decide) v_p0 h (fun l1 h => ?_)
      refine dp_fs (dr_g17 hR v_p0 l1) h (fun c2 v2 h => ?_)
      refine dp_ls hab v_p1 v2 h (fun h => ?_) (fun h => ?_)
      · refine dp_fs (dv_add (dv_mul (dv_n 8 (by decide)) v_p0) v_p1) h (fun c3 v3 h => ?_)
        refine dp_in (by decide) v3 h (fun l4 h => ?_)
        refine dp_fs (dr_g18 hR v3 l4) h (fun c5 v5 h => ?_)
        exact hk _ _ v5 h
      · exact hk _ _ dv_m1000000003 h
  · exact hk _ _ dv_m1000000001 h
noncomputable def dx_px_body (k : Nat → Bool) (c_p0 c_p1 : Nat) (M : Nat) : Bool := dx_px_badStore (fun c_r_1 => dx_eq c_r_1 0 (dx_px_noRevision (fun c_r_3 => dx_eq c_r_3 0 (dx_fs (dx_add (dx_mul 80 c_p0) c_p1) (fun c1 => dx_in c1 240 (dx_fs (dx_ce M (Nat.add 569 c1)) (fun c3 => dx_eq c3 0 (k 8195) (dx_fs (dx_ce M (Nat.add 1049 c1)) (fun c4 => dx_eq c4 0 (k 8196) (dx_in c_p1 80 (dx_fs (dx_ce M (Nat.add 161 c_p1)) (fun c6 => k c6))))))))) (k 8195)) c_p1 M) (k 8193)) c_p0 M
theorem ds_px_body {a b : Int32} (hab : dx_ab a b) {post : Int32 → Prop} {p0 p1 : Int32} {u : St2} {k : Nat → Bool} {c_p0 c_p1 : Nat} {M : Nat} (hk : ∀ (c : Nat) (r : Int32), dx_v a b c r → k c = true → post r) (v_p0 : dx_v a b c_p0 p0) (v_p1 : dx_v a b c_p1 p1) (hR : dx_R a b M u) (h : dx_px_body k c_p0 c_p1 M = true) : wpX_body post u p0 p1 := by
  unfold dx_px_body at h
  obtain ⟨f0_made, a1, a2, a3, a4, a5, a6, a7, a8, a9, a10, a11, a12, a13, a14, a15, a16, a17, a18, a19, a20, a21, a22⟩ := u
  unfold wpX_body
  refine ds_px_badStore hab ?_ v_p0 hR h
  intro c_r_1 r_1 v_r_1 h
  refine dp_eq hab v_r_1 (dv_n 0 (by decide)) h (fun h => ?_) (fun h => ?_)
  · refine ds_px_noRevision hab ?_ v_p1 hR h
    intro c_r_3 r_3 v_r_3 h
    refine dp_eq hab v_r_3 (dv_n 0 (by decide)) h (fun h => ?_) (fun h => ?_)
    · refine dp_fs (dv_add (dv_mul (dv_n 80 (by decide)) v_p0) v_p1) h (fun c1 v1 h => ?_)
      refine dp_in (by decide) v1 h (fun l2 h => ?_)
      refine dp_fs (dr_g9 hR v1 l2) h (fun c3 v3 h => ?_)
      refine dp_eq hab v3 (dv_n 0 (by decide)) h (fun h => ?_) (fun h => ?_)
      · exact hk _ _ dv_m1000000003 h
      · refine ⟨dv_in v1 l2 (by decide), ?_⟩
        refine dp_fs (dr_g11 hR v1 l2) h (fun c4 v4 h => ?_)
        refine dp_eq hab v4 (dv_n 0 (by decide)) h (fun h => ?_) (fun h => ?_)
        · exact hk _ _ dv_m1000000004 h
        · refine dp_in (by decide) v_p1 h (fun l5 h => ?_)
          refine dp_fs (dr_g3 hR v_p1 l5) h (fun c6 v6 h => ?_)
          exact hk _ _ v6 h
    · exact hk _ _ dv_m1000000003 h
  · exact hk _ _ dv_m1000000001 h
noncomputable def dx_x_below_24_b (k : Nat → Bool) (c_x1 c_x2 : Nat) (M : Nat) (ih : Nat → Nat → Nat → Bool) (c_x3 c_x4 c_x5 : Nat) : Bool := dx_le 5 c_x5 (k c_x3) (dx_le c_x4 c_x3 (k c_x3) (dx_fs (dx_hf (dx_add c_x3 c_x4)) (fun c_x6_7 => dx_fs (dx_add (dx_mul 8 c_x1) c_x6_7) (fun c1 => dx_in c1 24 (dx_fs (dx_add (dx_mul 8 c_x1) (dx_ce M (Nat.add 3272 c1))) (fun c3 => dx_in c3 24 (dx_fs (dx_ce M (Nat.add 3320 c3)) (fun c5 => dx_le c_x2 c5 (dx_fs (dx_add c_x5 1) (fun c_x5_11 => ih c_x3 c_x6_7 c_x5_11)) (dx_fs (dx_add c_x6_7 1) (fun c_x3_12 => dx_fs (dx_add c_x5 1) (fun c_x5_13 => ih c_x3_12 c_x4 c_x5_13)))))))))))
noncomputable def dx_x_below_24 (k : Nat → Bool) (c_x1 c_x2 : Nat) (M : Nat) (n : Nat) : Nat → Nat → Nat → Bool := Nat.rec (motive := fun _ => Nat → Nat → Nat → Bool) (fun _ _ _ => false) (fun _ ih => dx_x_below_24_b k c_x1 c_x2 M ih) n
theorem ds_x_below_24 {a b : Int32} (hab : dx_ab a b) {post : Int32 → Prop} {x1 x2 : Int32} {f0_made : Int32} {a1 a2 a3 a4 a5 a6 a7 a8 a9 a10 a11 a12 a13 a14 a15 a16 a17 a18 a19 a20 a21 a22 : Nat → Int32} {k : Nat → Bool} {c_x1 c_x2 : Nat} {M : Nat} (hk : ∀ (c : Nat) (r : Int32), dx_v a b c r → k c = true → post r) (v_x1 : dx_v a b c_x1 x1) (v_x2 : dx_v a b c_x2 x2) (hR : dx_R a b M (f0_made, a1, a2, a3, a4, a5, a6, a7, a8, a9, a10, a11, a12, a13, a14, a15, a16, a17, a18, a19, a20, a21, a22)) : ∀ (n : Nat) {x3 x4 x5 : Int32} {c_x3 c_x4 c_x5 : Nat}, dx_v a b c_x3 x3 → dx_v a b c_x4 x4 → dx_v a b c_x5 x5 → dx_x_below_24 k c_x1 c_x2 M n c_x3 c_x4 c_x5 = true → wX_below_24 post x1 x2 f0_made a1 a2 a3 a4 a5 a6 a7 a8 a9 a10 a11 a12 a13 a14 a15 a16 a17 a18 a19 a20 a21 a22 n x3 x4 x5 := by
  intro n
  induction n with
  | zero =>
    intro x3 x4 x5 c_x3 c_x4 c_x5 v_x3 v_x4 v_x5 h
    exact absurd (show false = true from h) (by decide)
  | succ n ih =>
    intro x3 x4 x5 c_x3 c_x4 c_x5 v_x3 v_x4 v_x5 h
    replace h : dx_x_below_24_b k c_x1 c_x2 M (dx_x_below_24 k c_x1 c_x2 M n) c_x3 c_x4 c_x5 = true := h
    unfold dx_x_below_24_b at h
    refine dp_le hab (dv_n 5 (by decide)) v_x5 h (fun h => ?_) (fun h => ?_)
    · exact hk _ _ v_x3 h
    · refine dp_le hab v_x4 v_x3 h (fun h => ?_) (fun h => ?_)
      · exact hk _ _ v_x3 h
      · intro x6_7 e_x6_7
        refine dp_fs (dv_of e_x6_7 (dv_hf (dv_add v_x3 v_x4))) h (fun c_x6_7 v_x6_7 h => ?_)
        refine dp_fs (dv_add (dv_mul (dv_n 8 (by decide)) v_x1) v_x6_7) h (fun c1 v1 h => ?_)
        refine dp_in (by decide) v1 h (fun l2 h => ?_)
        refine dp_fs (dv_add (dv_mul (dv_n 8 (by decide)) v_x1) (dr_g18 hR v1 l2)) h (fun c3 v3 h => ?_)
        refine dp_in (by decide) v3 h (fun l4 h => ?_)
        refine dp_fs (dr_g20 hR v3 l4) h (fun c5 v5 h => ?_)
        refine dp_le hab v_x2 v5 h (fun h => ?_) (fun h => ?_)
        · intro x5_11 e_x5_11
          refine dp_fs (dv_of e_x5_11 (dv_add v_x5 (dv_n 1 (by decide)))) h (fun c_x5_11 v_x5_11 h => ?_)
          exact ih v_x3 v_x6_7 v_x5_11 h
        · intro x3_12 e_x3_12
          refine dp_fs (dv_of e_x3_12 (dv_add v_x6_7 (dv_n 1 (by decide)))) h (fun c_x3_12 v_x3_12 h => ?_)
          intro x5_13 e_x5_13
          refine dp_fs (dv_of e_x5_13 (dv_add v_x5 (dv_n 1 (by decide)))) h (fun c_x5_13 v_x5_13 h => ?_)
          exact ih v_x3_12 v_x4 v_x5_13 h
noncomputable def dx_px_below (k : Nat → Bool) (c_p0 c_p1 : Nat) (M : Nat) : Bool := dx_px_badStore (fun c_r_1 => dx_eq c_r_1 0 (dx_in c_p0 3 (dx_fs (dx_ce M (Nat.add 3269 c_p0)) (fun c_x4_4 => dx_x_below_24 k c_p0 c_p1 M 100 0 c_x4_4 0))) (k 8193)) c_p0 M
theorem ds_px_below {a b : Int32} (hab : dx_ab a b) {post : Int32 → Prop} {p0 p1 : Int32} {u : St2} {k : Nat → Bool} {c_p0 c_p1 : Nat} {M : Nat} (hk : ∀ (c : Nat) (r : Int32), dx_v a b c r → k c = true → post r) (v_p0 : dx_v a b c_p0 p0) (v_p1 : dx_v a b c_p1 p1) (hR : dx_R a b M u) (h : dx_px_below k c_p0 c_p1 M = true) : wpX_below post u p0 p1 := by
  unfold dx_px_below at h
  obtain ⟨f0_made, a1, a2, a3, a4, a5, a6, a7, a8, a9, a10, a11, a12, a13, a14, a15, a16, a17, a18, a19, a20, a21, a22⟩ := u
  unfold wpX_below
  refine ds_px_badStore hab ?_ v_p0 hR h
  intro c_r_1 r_1 v_r_1 h
  refine dp_eq hab v_r_1 (dv_n 0 (by decide)) h (fun h => ?_) (fun h => ?_)
  · refine dp_in (by decide) v_p0 h (fun l1 h => ?_)
    intro x4_4 e_x4_4
    refine dp_fs (dv_of e_x4_4 (dr_g17 hR v_p0 l1)) h (fun c_x4_4 v_x4_4 h => ?_)
    refine ⟨100, ?_⟩
    exact ds_x_below_24 hab hk v_p0 v_p1 hR 100 (dv_n 0 (by decide)) v_x4_4 (dv_n 0 (by decide)) h
  · exact hk _ _ dv_m1000000001 h
noncomputable def dx_px_count (k : Nat → Bool) (c_p0 : Nat) (M : Nat) : Bool := dx_px_badStore (fun c_r_1 => dx_eq c_r_1 0 (dx_in c_p0 3 (dx_fs (dx_ce M (Nat.add 3233 c_p0)) (fun c2 => k c2))) (k 8193)) c_p0 M
theorem ds_px_count {a b : Int32} (hab : dx_ab a b) {post : Int32 → Prop} {p0 : Int32} {u : St2} {k : Nat → Bool} {c_p0 : Nat} {M : Nat} (hk : ∀ (c : Nat) (r : Int32), dx_v a b c r → k c = true → post r) (v_p0 : dx_v a b c_p0 p0) (hR : dx_R a b M u) (h : dx_px_count k c_p0 M = true) : wpX_count post u p0 := by
  unfold dx_px_count at h
  obtain ⟨f0_made, a1, a2, a3, a4, a5, a6, a7, a8, a9, a10, a11, a12, a13, a14, a15, a16, a17, a18, a19, a20, a21, a22⟩ := u
  unfold wpX_count
  refine ds_px_badStore hab ?_ v_p0 hR h
  intro c_r_1 r_1 v_r_1 h
  refine dp_eq hab v_r_1 (dv_n 0 (by decide)) h (fun h => ?_) (fun h => ?_)
  · refine dp_in (by decide) v_p0 h (fun l1 h => ?_)
    refine dp_fs (dr_g14 hR v_p0 l1) h (fun c2 v2 h => ?_)
    exact hk _ _ v2 h
  · exact hk _ _ dv_m1000000001 h
end
section
noncomputable def dx_l_chains_685 (k : Nat → Nat → Bool) (c_x1 c_x2 c_x4 c_x8 c_z0 : Nat) (M : Nat) : Bool := dx_eq c_z0 0 (k 0 M) (dx_px_purge (fun c_r_212 M1 => dx_fs (dx_add c_x1 6) (fun c2 => dx_eq c_r_212 c2 (dx_px_purge (fun c_r_281 M3 => dx_eq c_r_281 8195 (dx_px_stamp (fun c_r_350 => dx_eq c_r_350 0 (dx_px_copy (fun c_r_352 M4 => dx_eq c_r_352 1 (dx_px_agree (fun c_r_421 => dx_eq c_r_421 0 (k 0 M4) (dx_px_winner (fun c_r_423 => dx_eq c_r_423 c_x8 (dx_px_revisions (fun c_r_425 => dx_eq c_r_425 c2 (dx_px_edit (fun c_r_427 M5 => dx_eq c_r_427 0 (dx_px_knows (fun c_r_496 => dx_eq c_r_496 0 (k 0 M5) (k 1 M5)) 2 0 M5) (k 0 M5)) 2 c_x4 c_x2 M4) (k 0 M4)) M4) (k 0 M4)) 0 c_x4 M4)) 0 1 M4) (k 0 M4)) 1 0 M3) (k 0 M3)) 0 c_x4 M3) (k 0 M3)) 0 c_x4 M1) (k 0 M1))) 0 c_x4 M)
theorem ds_l_chains_685 {a b : Int32} (hab : dx_ab a b) {post : Int32 → St2 → Prop} {x1 x2 x4 x8 z0 : Int32} {f0_made : Int32} {am2741 am2742 am2743 am2744 am2745 am2746 am2747 am2748 am2749 am27410 am27411 am27412 am27413 am27414 am27415 am27416 am27417 am27418 am27419 am27420 am27421 am27422 : Nat → Int32} {k : Nat → Nat → Bool} {c_x1 c_x2 c_x4 c_x8 c_z0 : Nat} {M : Nat} (hk : ∀ (c : Nat) (r : Int32) (M : Nat) (u : St2), dx_v a b c r → dx_R a b M u → k c M = true → post r u) (v_x1 : dx_v a b c_x1 x1) (v_x2 : dx_v a b c_x2 x2) (v_x4 : dx_v a b c_x4 x4) (v_x8 : dx_v a b c_x8 x8) (v_z0 : dx_v a b c_z0 z0) (hR : dx_R a b M (f0_made, am2741, am2742, am2743, am2744, am2745, am2746, am2747, am2748, am2749, am27410, am27411, am27412, am27413, am27414, am27415, am27416, am27417, am27418, am27419, am27420, am27421, am27422)) (h : dx_l_chains_685 k c_x1 c_x2 c_x4 c_x8 c_z0 M = true) : wL_chains_685 post x1 x2 x4 x8 z0 f0_made am2741 am2742 am2743 am2744 am2745 am2746 am2747 am2748 am2749 am27410 am27411 am27412 am27413 am27414 am27415 am27416 am27417 am27418 am27419 am27420 am27421 am27422 := by
  unfold dx_l_chains_685 at h
  refine dp_eq hab v_z0 (dv_n 0 (by decide)) h (fun h => ?_) (fun h => ?_)
  · exact hk _ _ _ _ (dv_n 0 (by decide)) hR h
  · refine ds_px_purge hab ?_ (dv_n 0 (by decide)) v_x4 hR h
    intro c_r_212 r_212 M1 u1 v_r_212 R1 h
    obtain ⟨f0_made_213, am6961_216, am6962_219, am6963_222, am6964_225, am6965_228, am6966_231, am6967_234, am6968_237, am6969_240, am69610_243, am69611_246, am69612_249, am69613_252, am69614_255, am69615_258, am69616_261, am69617_264, am69618_267, am69619_270, am69620_273, am69621_276, am69622_279⟩ := u1
    refine dp_fs (dv_add v_x1 (dv_n 6 (by decide))) h (fun c2 v2 h => ?_)
    refine dp_eq hab v_r_212 v2 h (fun h => ?_) (fun h => ?_)
    · refine ds_px_purge hab ?_ (dv_n 0 (by decide)) v_x4 R1 h
      intro c_r_281 r_281 M3 u3 v_r_281 R3 h
      obtain ⟨f0_made_282, am7101_285, am7102_288, am7103_291, am7104_294, am7105_297, am7106_300, am7107_303, am7108_306, am7109_309, am71010_312, am71011_315, am71012_318, am71013_321, am71014_324, am71015_327, am71016_330, am71017_333, am71018_336, am71019_339, am71020_342, am71021_345, am71022_348⟩ := u3
      refine dp_eq hab v_r_281 dv_m1000000003 h (fun h => ?_) (fun h => ?_)
      · refine ds_px_stamp hab ?_ (dv_n 0 (by decide)) v_x4 R3 h
        intro c_r_350 r_350 v_r_350 h
        refine dp_eq hab v_r_350 (dv_n 0 (by decide)) h (fun h => ?_) (fun h => ?_)
        · refine ds_px_copy hab ?_ (dv_n 1 (by decide)) (dv_n 0 (by decide)) R3 h
          intro c_r_352 r_352 M4 u4 v_r_352 R4 h
          obtain ⟨f0_made_353, am7311_356, am7312_359, am7313_362, am7314_365, am7315_368, am7316_371, am7317_374, am7318_377, am7319_380, am73110_383, am73111_386, am73112_389, am73113_392, am73114_395, am73115_398, am73116_401, am73117_404, am73118_407, am73119_410, am73120_413, am73121_416, am73122_419⟩ := u4
          refine dp_eq hab v_r_352 (dv_n 1 (by decide)) h (fun h => ?_) (fun h => ?_)
          · refine ds_px_agree hab ?_ (dv_n 0 (by decide)) (dv_n 1 (by decide)) R4 h
            intro c_r_421 r_421 v_r_421 h
            refine dp_eq hab v_r_421 (dv_n 0 (by decide)) h (fun h => ?_) (fun h => ?_)
            · exact hk _ _ _ _ (dv_n 0 (by decide)) R4 h
            · refine ds_px_winner hab ?_ (dv_n 0 (by decide)) v_x4 R4 h
              intro c_r_423 r_423 v_r_423 h
              refine dp_eq hab v_r_423 v_x8 h (fun h => ?_) (fun h => ?_)
              · refine ds_px_revisions hab ?_ R4 h
                intro c_r_425 r_425 v_r_425 h
                refine dp_eq hab v_r_425 v2 h (fun h => ?_) (fun h => ?_)
                · refine ds_px_edit hab ?_ (dv_n 2 (by decide)) v_x4 v_x2 R4 h
                  intro c_r_427 r_427 M5 u5 v_r_427 R5 h
                  obtain ⟨f0_made_428, am7751_431, am7752_434, am7753_437, am7754_440, am7755_443, am7756_446, am7757_449, am7758_452, am7759_455, am77510_458, am77511_461, am77512_464, am77513_467, am77514_470, am77515_473, am77516_476, am77517_479, am77518_482, am77519_485, am77520_488, am77521_491, am77522_494⟩ := u5
                  refine dp_eq hab v_r_427 (dv_n 0 (by decide)) h (fun h => ?_) (fun h => ?_)
                  · refine ds_px_knows hab ?_ (dv_n 2 (by decide)) (dv_n 0 (by decide)) R5 h
                    intro c_r_496 r_496 v_r_496 h
                    refine dp_eq hab v_r_496 (dv_n 0 (by decide)) h (fun h => ?_) (fun h => ?_)
                    · exact hk _ _ _ _ (dv_n 0 (by decide)) R5 h
                    · exact hk _ _ _ _ (dv_n 1 (by decide)) R5 h
                  · exact hk _ _ _ _ (dv_n 0 (by decide)) R5 h
                · exact hk _ _ _ _ (dv_n 0 (by decide)) R4 h
              · exact hk _ _ _ _ (dv_n 0 (by decide)) R4 h
          · exact hk _ _ _ _ (dv_n 0 (by decide)) R4 h
        · exact hk _ _ _ _ (dv_n 0 (by decide)) R3 h
      · exact hk _ _ _ _ (dv_n 0 (by decide)) R3 h
    · exact hk _ _ _ _ (dv_n 0 (by decide)) R1 h
noncomputable def dx_l_chains_684 (k : Nat → Nat → Bool) (c_x1 c_x2 c_x4 c_x8 : Nat) (M : Nat) : Bool := dx_l_chains_685 k c_x1 c_x2 c_x4 c_x8 0 M
theorem ds_l_chains_684 {a b : Int32} (hab : dx_ab a b) {post : Int32 → St2 → Prop} {x1 x2 x4 x8 : Int32} {f0_made : Int32} {am2741 am2742 am2743 am2744 am2745 am2746 am2747 am2748 am2749 am27410 am27411 am27412 am27413 am27414 am27415 am27416 am27417 am27418 am27419 am27420 am27421 am27422 : Nat → Int32} {k : Nat → Nat → Bool} {c_x1 c_x2 c_x4 c_x8 : Nat} {M : Nat} (hk : ∀ (c : Nat) (r : Int32) (M : Nat) (u : St2), dx_v a b c r → dx_R a b M u → k c M = true → post r u) (v_x1 : dx_v a b c_x1 x1) (v_x2 : dx_v a b c_x2 x2) (v_x4 : dx_v a b c_x4 x4) (v_x8 : dx_v a b c_x8 x8) (hR : dx_R a b M (f0_made, am2741, am2742, am2743, am2744, am2745, am2746, am2747, am2748, am2749, am27410, am27411, am27412, am27413, am27414, am27415, am27416, am27417, am27418, am27419, am27420, am27421, am27422)) (h : dx_l_chains_684 k c_x1 c_x2 c_x4 c_x8 M = true) : wL_chains_684 post x1 x2 x4 x8 f0_made am2741 am2742 am2743 am2744 am2745 am2746 am2747 am2748 am2749 am27410 am27411 am27412 am27413 am27414 am27415 am27416 am27417 am27418 am27419 am27420 am27421 am27422 := by
  unfold dx_l_chains_684 at h
  unfold wL_chains_684
  exact ds_l_chains_685 hab hk v_x1 v_x2 v_x4 v_x8 (dv_n 0 (by decide)) hR h
noncomputable def dx_l_chains_594 (k : Nat → Nat → Bool) (c_x1 c_x2 c_x4 c_x8 c_z0 : Nat) (M : Nat) : Bool := dx_eq c_z0 0 (dx_l_chains_684 k c_x1 c_x2 c_x4 c_x8 M) (dx_px_editLeaf (fun c_r_498 M1 => dx_fs (dx_add c_x1 5) (fun c2 => dx_eq c_r_498 c2 (dx_px_winner (fun c_r_567 => dx_eq c_r_567 c2 (dx_px_editLeaf (fun c_r_569 M3 => dx_eq c_r_569 8195 (dx_px_revision (fun c_r_638 => dx_fs (dx_add c_x1 4) (fun c4 => dx_eq c_r_638 c4 (dx_px_compact (fun c_r_640 M5 => dx_fs (dx_sub c4 1) (fun c6 => dx_eq c_r_640 c6 (dx_px_compact (fun c_r_709 M7 => dx_eq c_r_709 0 (dx_l_chains_685 k c_x1 c_x2 c_x4 c_x8 1 M7) (dx_l_chains_684 k c_x1 c_x2 c_x4 c_x8 M7)) 0 M5) (dx_l_chains_684 k c_x1 c_x2 c_x4 c_x8 M5))) 0 M3) (dx_l_chains_684 k c_x1 c_x2 c_x4 c_x8 M3))) c2 1 M3) (dx_l_chains_684 k c_x1 c_x2 c_x4 c_x8 M3)) 0 c_x4 2 9 M1) (dx_l_chains_684 k c_x1 c_x2 c_x4 c_x8 M1)) 0 c_x4 M1) (dx_l_chains_684 k c_x1 c_x2 c_x4 c_x8 M1))) 0 c_x4 1 9 M)
theorem ds_l_chains_594 {a b : Int32} (hab : dx_ab a b) {post : Int32 → St2 → Prop} {x1 x2 x4 x8 z0 : Int32} {f0_made : Int32} {am2741 am2742 am2743 am2744 am2745 am2746 am2747 am2748 am2749 am27410 am27411 am27412 am27413 am27414 am27415 am27416 am27417 am27418 am27419 am27420 am27421 am27422 : Nat → Int32} {k : Nat → Nat → Bool} {c_x1 c_x2 c_x4 c_x8 c_z0 : Nat} {M : Nat} (hk : ∀ (c : Nat) (r : Int32) (M : Nat) (u : St2), dx_v a b c r → dx_R a b M u → k c M = true → post r u) (v_x1 : dx_v a b c_x1 x1) (v_x2 : dx_v a b c_x2 x2) (v_x4 : dx_v a b c_x4 x4) (v_x8 : dx_v a b c_x8 x8) (v_z0 : dx_v a b c_z0 z0) (hR : dx_R a b M (f0_made, am2741, am2742, am2743, am2744, am2745, am2746, am2747, am2748, am2749, am27410, am27411, am27412, am27413, am27414, am27415, am27416, am27417, am27418, am27419, am27420, am27421, am27422)) (h : dx_l_chains_594 k c_x1 c_x2 c_x4 c_x8 c_z0 M = true) : wL_chains_594 post x1 x2 x4 x8 z0 f0_made am2741 am2742 am2743 am2744 am2745 am2746 am2747 am2748 am2749 am27410 am27411 am27412 am27413 am27414 am27415 am27416 am27417 am27418 am27419 am27420 am27421 am27422 := by
  unfold dx_l_chains_594 at h
  refine dp_eq hab v_z0 (dv_n 0 (by decide)) h (fun h => ?_) (fun h => ?_)
  · exact ds_l_chains_684 hab hk v_x1 v_x2 v_x4 v_x8 hR h
  · refine ds_px_editLeaf hab ?_ (dv_n 0 (by decide)) v_x4 (dv_n 1 (by decide)) (dv_n 9 (by decide)) hR h
    intro c_r_498 r_498 M1 u1 v_r_498 R1 h
    obtain ⟨f0_made_499, am6081_502, am6082_505, am6083_508, am6084_511, am6085_514, am6086_517, am6087_520, am6088_523, am6089_526, am60810_529, am60811_532, am60812_535, am60813_538, am60814_541, am60815_544, am60816_547, am60817_550, am60818_553, am60819_556, am60820_559, am60821_562, am60822_565⟩ := u1
    refine dp_fs (dv_add v_x1 (dv_n 5 (by decide))) h (fun c2 v2 h => ?_)
    refine dp_eq hab v_r_498 v2 h (fun h => ?_) (fun h => ?_)
    · refine ds_px_winner hab ?_ (dv_n 0 (by decide)) v_x4 R1 h
      intro c_r_567 r_567 v_r_567 h
      refine dp_eq hab v_r_567 v2 h (fun h => ?_) (fun h => ?_)
      · refine ds_px_editLeaf hab ?_ (dv_n 0 (by decide)) v_x4 (dv_n 2 (by decide)) (dv_n 9 (by decide)) R1 h
        intro c_r_569 r_569 M3 u3 v_r_569 R3 h
        obtain ⟨f0_made_570, am6371_573, am6372_576, am6373_579, am6374_582, am6375_585, am6376_588, am6377_591, am6378_594, am6379_597, am63710_600, am63711_603, am63712_606, am63713_609, am63714_612, am63715_615, am63716_618, am63717_621, am63718_624, am63719_627, am63720_630, am63721_633, am63722_636⟩ := u3
        refine dp_eq hab v_r_569 dv_m1000000003 h (fun h => ?_) (fun h => ?_)
        · refine ds_px_revision hab ?_ v2 (dv_n 1 (by decide)) R3 h
          intro c_r_638 r_638 v_r_638 h
          refine dp_fs (dv_add v_x1 (dv_n 4 (by decide))) h (fun c4 v4 h => ?_)
          refine dp_eq hab v_r_638 v4 h (fun h => ?_) (fun h => ?_)
          · refine ds_px_compact hab ?_ (dv_n 0 (by decide)) R3 h
            intro c_r_640 r_640 M5 u5 v_r_640 R5 h
            obtain ⟨f0_made_641, am6611_644, am6612_647, am6613_650, am6614_653, am6615_656, am6616_659, am6617_662, am6618_665, am6619_668, am66110_671, am66111_674, am66112_677, am66113_680, am66114_683, am66115_686, am66116_689, am66117_692, am66118_695, am66119_698, am66120_701, am66121_704, am66122_707⟩ := u5
            refine dp_fs (dv_sub v4 (dv_n 1 (by decide))) h (fun c6 v6 h => ?_)
            refine dp_eq hab v_r_640 v6 h (fun h => ?_) (fun h => ?_)
            · refine ds_px_compact hab ?_ (dv_n 0 (by decide)) R5 h
              intro c_r_709 r_709 M7 u7 v_r_709 R7 h
              obtain ⟨f0_made_710, am6741_713, am6742_716, am6743_719, am6744_722, am6745_725, am6746_728, am6747_731, am6748_734, am6749_737, am67410_740, am67411_743, am67412_746, am67413_749, am67414_752, am67415_755, am67416_758, am67417_761, am67418_764, am67419_767, am67420_770, am67421_773, am67422_776⟩ := u7
              refine dp_eq hab v_r_709 (dv_n 0 (by decide)) h (fun h => ?_) (fun h => ?_)
              · exact ds_l_chains_685 hab hk v_x1 v_x2 v_x4 v_x8 (dv_n 1 (by decide)) R7 h
              · exact ds_l_chains_684 hab hk v_x1 v_x2 v_x4 v_x8 R7 h
            · exact ds_l_chains_684 hab hk v_x1 v_x2 v_x4 v_x8 R5 h
          · exact ds_l_chains_684 hab hk v_x1 v_x2 v_x4 v_x8 R3 h
        · exact ds_l_chains_684 hab hk v_x1 v_x2 v_x4 v_x8 R3 h
      · exact ds_l_chains_684 hab hk v_x1 v_x2 v_x4 v_x8 R1 h
    · exact ds_l_chains_684 hab hk v_x1 v_x2 v_x4 v_x8 R1 h
noncomputable def dx_l_chains_593 (k : Nat → Nat → Bool) (c_x1 c_x2 c_x4 c_x8 : Nat) (M : Nat) : Bool := dx_l_chains_594 k c_x1 c_x2 c_x4 c_x8 0 M
theorem ds_l_chains_593 {a b : Int32} (hab : dx_ab a b) {post : Int32 → St2 → Prop} {x1 x2 x4 x8 : Int32} {f0_made : Int32} {am2741 am2742 am2743 am2744 am2745 am2746 am2747 am2748 am2749 am27410 am27411 am27412 am27413 am27414 am27415 am27416 am27417 am27418 am27419 am27420 am27421 am27422 : Nat → Int32} {k : Nat → Nat → Bool} {c_x1 c_x2 c_x4 c_x8 : Nat} {M : Nat} (hk : ∀ (c : Nat) (r : Int32) (M : Nat) (u : St2), dx_v a b c r → dx_R a b M u → k c M = true → post r u) (v_x1 : dx_v a b c_x1 x1) (v_x2 : dx_v a b c_x2 x2) (v_x4 : dx_v a b c_x4 x4) (v_x8 : dx_v a b c_x8 x8) (hR : dx_R a b M (f0_made, am2741, am2742, am2743, am2744, am2745, am2746, am2747, am2748, am2749, am27410, am27411, am27412, am27413, am27414, am27415, am27416, am27417, am27418, am27419, am27420, am27421, am27422)) (h : dx_l_chains_593 k c_x1 c_x2 c_x4 c_x8 M = true) : wL_chains_593 post x1 x2 x4 x8 f0_made am2741 am2742 am2743 am2744 am2745 am2746 am2747 am2748 am2749 am27410 am27411 am27412 am27413 am27414 am27415 am27416 am27417 am27418 am27419 am27420 am27421 am27422 := by
  unfold dx_l_chains_593 at h
  unfold wL_chains_593
  exact ds_l_chains_594 hab hk v_x1 v_x2 v_x4 v_x8 (dv_n 0 (by decide)) hR h
noncomputable def dx_l_chains_432 (k : Nat → Nat → Bool) (c_x1 c_x2 c_x3 c_x4 c_x6 c_x8 c_z0 : Nat) (M : Nat) : Bool := dx_eq c_z0 0 (dx_l_chains_593 k c_x1 c_x2 c_x4 c_x8 M) (dx_px_delete (fun c_r_778 M1 => dx_fs (dx_add c_x1 3) (fun c2 => dx_eq c_r_778 c2 (dx_px_winner (fun c_r_847 => dx_eq c_r_847 c_x6 (dx_px_leaf (fun c_r_849 => dx_eq c_r_849 c2 (dx_px_leaves (fun c_r_851 => dx_eq c_r_851 2 (dx_px_conflicts (fun c_r_853 => dx_eq c_r_853 0 (dx_px_total (fun c_r_855 => dx_eq c_r_855 c_x3 (dx_px_delete (fun c_r_857 M3 => dx_eq c_r_857 8195 (dx_px_delete (fun c_r_926 M4 => dx_fs (dx_add c_x1 4) (fun c5 => dx_eq c_r_926 c5 (dx_px_size (fun c_r_995 => dx_eq c_r_995 0 (dx_px_viewed (fun c_r_997 => dx_eq c_r_997 8195 (dx_px_winner (fun c_r_999 => dx_eq c_r_999 c2 (dx_px_body (fun c_r_1001 => dx_eq c_r_1001 0 (dx_px_revision (fun c_r_1003 => dx_eq c_r_1003 1 (dx_l_chains_594 k c_x1 c_x2 c_x4 c_x8 1 M4) (dx_l_chains_593 k c_x1 c_x2 c_x4 c_x8 M4)) c5 3 M4) (dx_l_chains_593 k c_x1 c_x2 c_x4 c_x8 M4)) 0 c2 M4) (dx_l_chains_593 k c_x1 c_x2 c_x4 c_x8 M4)) 0 c_x4 M4) (dx_l_chains_593 k c_x1 c_x2 c_x4 c_x8 M4)) 0 0 M4) (dx_l_chains_593 k c_x1 c_x2 c_x4 c_x8 M4)) 0 M4) (dx_l_chains_593 k c_x1 c_x2 c_x4 c_x8 M4))) 0 c_x4 1 M3) (dx_l_chains_593 k c_x1 c_x2 c_x4 c_x8 M3)) 0 c_x4 0 M1) (dx_l_chains_593 k c_x1 c_x2 c_x4 c_x8 M1)) 0 M1) (dx_l_chains_593 k c_x1 c_x2 c_x4 c_x8 M1)) 0 M1) (dx_l_chains_593 k c_x1 c_x2 c_x4 c_x8 M1)) 0 c_x4 M1) (dx_l_chains_593 k c_x1 c_x2 c_x4 c_x8 M1)) 0 c_x4 0 M1) (dx_l_chains_593 k c_x1 c_x2 c_x4 c_x8 M1)) 0 c_x4 M1) (dx_l_chains_593 k c_x1 c_x2 c_x4 c_x8 M1))) 0 c_x4 0 M)
theorem ds_l_chains_432 {a b : Int32} (hab : dx_ab a b) {post : Int32 → St2 → Prop} {x1 x2 x3 x4 x6 x8 z0 : Int32} {f0_made : Int32} {am2741 am2742 am2743 am2744 am2745 am2746 am2747 am2748 am2749 am27410 am27411 am27412 am27413 am27414 am27415 am27416 am27417 am27418 am27419 am27420 am27421 am27422 : Nat → Int32} {k : Nat → Nat → Bool} {c_x1 c_x2 c_x3 c_x4 c_x6 c_x8 c_z0 : Nat} {M : Nat} (hk : ∀ (c : Nat) (r : Int32) (M : Nat) (u : St2), dx_v a b c r → dx_R a b M u → k c M = true → post r u) (v_x1 : dx_v a b c_x1 x1) (v_x2 : dx_v a b c_x2 x2) (v_x3 : dx_v a b c_x3 x3) (v_x4 : dx_v a b c_x4 x4) (v_x6 : dx_v a b c_x6 x6) (v_x8 : dx_v a b c_x8 x8) (v_z0 : dx_v a b c_z0 z0) (hR : dx_R a b M (f0_made, am2741, am2742, am2743, am2744, am2745, am2746, am2747, am2748, am2749, am27410, am27411, am27412, am27413, am27414, am27415, am27416, am27417, am27418, am27419, am27420, am27421, am27422)) (h : dx_l_chains_432 k c_x1 c_x2 c_x3 c_x4 c_x6 c_x8 c_z0 M = true) : wL_chains_432 post x1 x2 x3 x4 x6 x8 z0 f0_made am2741 am2742 am2743 am2744 am2745 am2746 am2747 am2748 am2749 am27410 am27411 am27412 am27413 am27414 am27415 am27416 am27417 am27418 am27419 am27420 am27421 am27422 := by
  unfold dx_l_chains_432 at h
  refine dp_eq hab v_z0 (dv_n 0 (by decide)) h (fun h => ?_) (fun h => ?_)
  · exact ds_l_chains_593 hab hk v_x1 v_x2 v_x4 v_x8 hR h
  · refine ds_px_delete hab ?_ (dv_n 0 (by decide)) v_x4 (dv_n 0 (by decide)) hR h
    intro c_r_778 r_778 M1 u1 v_r_778 R1 h
    obtain ⟨f0_made_779, am4441_782, am4442_785, am4443_788, am4444_791, am4445_794, am4446_797, am4447_800, am4448_803, am4449_806, am44410_809, am44411_812, am44412_815, am44413_818, am44414_821, am44415_824, am44416_827, am44417_830, am44418_833, am44419_836, am44420_839, am44421_842, am44422_845⟩ := u1
    refine dp_fs (dv_add v_x1 (dv_n 3 (by decide))) h (fun c2 v2 h => ?_)
    refine dp_eq hab v_r_778 v2 h (fun h => ?_) (fun h => ?_)
    · refine ds_px_winner hab ?_ (dv_n 0 (by decide)) v_x4 R1 h
      intro c_r_847 r_847 v_r_847 h
      refine dp_eq hab v_r_847 v_x6 h (fun h => ?_) (fun h => ?_)
      · refine ds_px_leaf hab ?_ (dv_n 0 (by decide)) v_x4 (dv_n 0 (by decide)) R1 h
        intro c_r_849 r_849 v_r_849 h
        refine dp_eq hab v_r_849 v2 h (fun h => ?_) (fun h => ?_)
        · refine ds_px_leaves hab ?_ (dv_n 0 (by decide)) v_x4 R1 h
          intro c_r_851 r_851 v_r_851 h
          refine dp_eq hab v_r_851 (dv_n 2 (by decide)) h (fun h => ?_) (fun h => ?_)
          · refine ds_px_conflicts hab ?_ (dv_n 0 (by decide)) R1 h
            intro c_r_853 r_853 v_r_853 h
            refine dp_eq hab v_r_853 (dv_n 0 (by decide)) h (fun h => ?_) (fun h => ?_)
            · refine ds_px_total hab ?_ (dv_n 0 (by decide)) R1 h
              intro c_r_855 r_855 v_r_855 h
              refine dp_eq hab v_r_855 v_x3 h (fun h => ?_) (fun h => ?_)
              · refine ds_px_delete hab ?_ (dv_n 0 (by decide)) v_x4 (dv_n 0 (by decide)) R1 h
                intro c_r_857 r_857 M3 u3 v_r_857 R3 h
                obtain ⟨f0_made_858, am5121_861, am5122_864, am5123_867, am5124_870, am5125_873, am5126_876, am5127_879, am5128_882, am5129_885, am51210_888, am51211_891, am51212_894, am51213_897, am51214_900, am51215_903, am51216_906, am51217_909, am51218_912, am51219_915, am51220_918, am51221_921, am51222_924⟩ := u3
                refine dp_eq hab v_r_857 dv_m1000000003 h (fun h => ?_) (fun h => ?_)
                · refine ds_px_delete hab ?_ (dv_n 0 (by decide)) v_x4 (dv_n 1 (by decide)) R3 h
                  intro c_r_926 r_926 M4 u4 v_r_926 R4 h
                  obtain ⟨f0_made_927, am5251_930, am5252_933, am5253_936, am5254_939, am5255_942, am5256_945, am5257_948, am5258_951, am5259_954, am52510_957, am52511_960, am52512_963, am52513_966, am52514_969, am52515_972, am52516_975, am52517_978, am52518_981, am52519_984, am52520_987, am52521_990, am52522_993⟩ := u4
                  refine dp_fs (dv_add v_x1 (dv_n 4 (by decide))) h (fun c5 v5 h => ?_)
                  refine dp_eq hab v_r_926 v5 h (fun h => ?_) (fun h => ?_)
                  · refine ds_px_size hab ?_ (dv_n 0 (by decide)) R4 h
                    intro c_r_995 r_995 v_r_995 h
                    refine dp_eq hab v_r_995 (dv_n 0 (by decide)) h (fun h => ?_) (fun h => ?_)
                    · refine ds_px_viewed hab ?_ (dv_n 0 (by decide)) (dv_n 0 (by decide)) R4 h
                      intro c_r_997 r_997 v_r_997 h
                      refine dp_eq hab v_r_997 dv_m1000000003 h (fun h => ?_) (fun h => ?_)
                      · refine ds_px_winner hab ?_ (dv_n 0 (by decide)) v_x4 R4 h
                        intro c_r_999 r_999 v_r_999 h
                        refine dp_eq hab v_r_999 v2 h (fun h => ?_) (fun h => ?_)
                        · refine ds_px_body hab ?_ (dv_n 0 (by decide)) v2 R4 h
                          intro c_r_1001 r_1001 v_r_1001 h
                          refine dp_eq hab v_r_1001 (dv_n 0 (by decide)) h (fun h => ?_) (fun h => ?_)
                          · refine ds_px_revision hab ?_ v5 (dv_n 3 (by decide)) R4 h
                            intro c_r_1003 r_1003 v_r_1003 h
                            refine dp_eq hab v_r_1003 (dv_n 1 (by decide)) h (fun h => ?_) (fun h => ?_)
                            · exact ds_l_chains_594 hab hk v_x1 v_x2 v_x4 v_x8 (dv_n 1 (by decide)) R4 h
                            · exact ds_l_chains_593 hab hk v_x1 v_x2 v_x4 v_x8 R4 h
                          · exact ds_l_chains_593 hab hk v_x1 v_x2 v_x4 v_x8 R4 h
                        · exact ds_l_chains_593 hab hk v_x1 v_x2 v_x4 v_x8 R4 h
                      · exact ds_l_chains_593 hab hk v_x1 v_x2 v_x4 v_x8 R4 h
                    · exact ds_l_chains_593 hab hk v_x1 v_x2 v_x4 v_x8 R4 h
                  · exact ds_l_chains_593 hab hk v_x1 v_x2 v_x4 v_x8 R4 h
                · exact ds_l_chains_593 hab hk v_x1 v_x2 v_x4 v_x8 R3 h
              · exact ds_l_chains_593 hab hk v_x1 v_x2 v_x4 v_x8 R1 h
            · exact ds_l_chains_593 hab hk v_x1 v_x2 v_x4 v_x8 R1 h
          · exact ds_l_chains_593 hab hk v_x1 v_x2 v_x4 v_x8 R1 h
        · exact ds_l_chains_593 hab hk v_x1 v_x2 v_x4 v_x8 R1 h
      · exact ds_l_chains_593 hab hk v_x1 v_x2 v_x4 v_x8 R1 h
    · exact ds_l_chains_593 hab hk v_x1 v_x2 v_x4 v_x8 R1 h
noncomputable def dx_l_chains_431 (k : Nat → Nat → Bool) (c_x1 c_x2 c_x3 c_x4 c_x6 c_x8 : Nat) (M : Nat) : Bool := dx_l_chains_432 k c_x1 c_x2 c_x3 c_x4 c_x6 c_x8 0 M
theorem ds_l_chains_431 {a b : Int32} (hab : dx_ab a b) {post : Int32 → St2 → Prop} {x1 x2 x3 x4 x6 x8 : Int32} {f0_made : Int32} {am2741 am2742 am2743 am2744 am2745 am2746 am2747 am2748 am2749 am27410 am27411 am27412 am27413 am27414 am27415 am27416 am27417 am27418 am27419 am27420 am27421 am27422 : Nat → Int32} {k : Nat → Nat → Bool} {c_x1 c_x2 c_x3 c_x4 c_x6 c_x8 : Nat} {M : Nat} (hk : ∀ (c : Nat) (r : Int32) (M : Nat) (u : St2), dx_v a b c r → dx_R a b M u → k c M = true → post r u) (v_x1 : dx_v a b c_x1 x1) (v_x2 : dx_v a b c_x2 x2) (v_x3 : dx_v a b c_x3 x3) (v_x4 : dx_v a b c_x4 x4) (v_x6 : dx_v a b c_x6 x6) (v_x8 : dx_v a b c_x8 x8) (hR : dx_R a b M (f0_made, am2741, am2742, am2743, am2744, am2745, am2746, am2747, am2748, am2749, am27410, am27411, am27412, am27413, am27414, am27415, am27416, am27417, am27418, am27419, am27420, am27421, am27422)) (h : dx_l_chains_431 k c_x1 c_x2 c_x3 c_x4 c_x6 c_x8 M = true) : wL_chains_431 post x1 x2 x3 x4 x6 x8 f0_made am2741 am2742 am2743 am2744 am2745 am2746 am2747 am2748 am2749 am27410 am27411 am27412 am27413 am27414 am27415 am27416 am27417 am27418 am27419 am27420 am27421 am27422 := by
  unfold dx_l_chains_431 at h
  unfold wL_chains_431
  exact ds_l_chains_432 hab hk v_x1 v_x2 v_x3 v_x4 v_x6 v_x8 (dv_n 0 (by decide)) hR h
noncomputable def dx_l_chains_243 (k : Nat → Nat → Bool) (c_x1 c_x2 c_x3 c_x4 c_z0 : Nat) (M : Nat) : Bool := dx_px_edit (fun c_r_4 M1 => dx_fs (dx_add c_x3 1) (fun c2 => dx_px_edit (fun c_r_72 M3 => dx_fs (dx_sub c_x3 5) (fun c4 => dx_px_edit (fun c_r_140 M5 => dx_eq c_z0 0 (dx_l_chains_431 k c_x1 c_x2 c_x3 c_x4 c_r_4 c_r_140 M5) (dx_eq c_r_4 c_x1 (dx_fs (dx_add c_x1 1) (fun c6 => dx_eq c_r_72 c6 (dx_fs (dx_add c_x1 2) (fun c7 => dx_eq c_r_140 c7 (dx_px_copy (fun c_r_1008 M8 => dx_eq c_r_1008 1 (dx_px_copy (fun c_r_1077 M9 => dx_eq c_r_1077 1 (dx_px_agree (fun c_r_1146 => dx_eq c_r_1146 0 (dx_l_chains_431 k c_x1 c_x2 c_x3 c_x4 c_r_4 c_r_140 M9) (dx_px_leaves (fun c_r_1148 => dx_eq c_r_1148 2 (dx_px_conflicts (fun c_r_1150 => dx_eq c_r_1150 1 (dx_px_winner (fun c_r_1152 => dx_eq c_r_1152 c_r_140 (dx_px_leaf (fun c_r_1154 => dx_eq c_r_1154 c_r_4 (dx_px_leaf (fun c_r_1156 => dx_eq c_r_1156 8195 (dx_px_total (fun c_r_1158 => dx_eq c_r_1158 c4 (dx_px_below (fun c_r_1160 => dx_eq c_r_1160 0 (dx_fs (dx_sub c_x3 4) (fun c10 => dx_px_below (fun c_r_1162 => dx_eq c_r_1162 1 (dx_l_chains_432 k c_x1 c_x2 c_x3 c_x4 c_r_4 c_r_140 1 M9) (dx_l_chains_431 k c_x1 c_x2 c_x3 c_x4 c_r_4 c_r_140 M9)) 0 c10 M9)) (dx_l_chains_431 k c_x1 c_x2 c_x3 c_x4 c_r_4 c_r_140 M9)) 0 c4 M9) (dx_l_chains_431 k c_x1 c_x2 c_x3 c_x4 c_r_4 c_r_140 M9)) 0 M9) (dx_l_chains_431 k c_x1 c_x2 c_x3 c_x4 c_r_4 c_r_140 M9)) 0 c_x4 2 M9) (dx_l_chains_431 k c_x1 c_x2 c_x3 c_x4 c_r_4 c_r_140 M9)) 0 c_x4 1 M9) (dx_l_chains_431 k c_x1 c_x2 c_x3 c_x4 c_r_4 c_r_140 M9)) 0 c_x4 M9) (dx_l_chains_431 k c_x1 c_x2 c_x3 c_x4 c_r_4 c_r_140 M9)) 1 M9) (dx_l_chains_431 k c_x1 c_x2 c_x3 c_x4 c_r_4 c_r_140 M9)) 0 c_x4 M9)) 0 1 M9) (dx_l_chains_431 k c_x1 c_x2 c_x3 c_x4 c_r_4 c_r_140 M9)) 0 1 M8) (dx_l_chains_431 k c_x1 c_x2 c_x3 c_x4 c_r_4 c_r_140 M8)) 1 0 M5) (dx_l_chains_431 k c_x1 c_x2 c_x3 c_x4 c_r_4 c_r_140 M5))) (dx_l_chains_431 k c_x1 c_x2 c_x3 c_x4 c_r_4 c_r_140 M5))) (dx_l_chains_431 k c_x1 c_x2 c_x3 c_x4 c_r_4 c_r_140 M5))) 1 c_x4 c4 M3)) 1 c_x4 c2 M1)) 0 c_x4 c_x3 M
theorem ds_l_chains_243 {a b : Int32} (hab : dx_ab a b) {post : Int32 → St2 → Prop} {x1 x2 x3 x4 z0 : Int32} {f0_made : Int32} {a1 a2 a3 a4 a5 a6 a7 a8 a9 a10 a11 a12 a13 a14 a15 a16 a17 a18 a19 a20 a21 a22 : Nat → Int32} {k : Nat → Nat → Bool} {c_x1 c_x2 c_x3 c_x4 c_z0 : Nat} {M : Nat} (hk : ∀ (c : Nat) (r : Int32) (M : Nat) (u : St2), dx_v a b c r → dx_R a b M u → k c M = true → post r u) (v_x1 : dx_v a b c_x1 x1) (v_x2 : dx_v a b c_x2 x2) (v_x3 : dx_v a b c_x3 x3) (v_x4 : dx_v a b c_x4 x4) (v_z0 : dx_v a b c_z0 z0) (hR : dx_R a b M (f0_made, a1, a2, a3, a4, a5, a6, a7, a8, a9, a10, a11, a12, a13, a14, a15, a16, a17, a18, a19, a20, a21, a22)) (h : dx_l_chains_243 k c_x1 c_x2 c_x3 c_x4 c_z0 M = true) : wL_chains_243 post x1 x2 x3 x4 z0 f0_made a1 a2 a3 a4 a5 a6 a7 a8 a9 a10 a11 a12 a13 a14 a15 a16 a17 a18 a19 a20 a21 a22 := by
  unfold dx_l_chains_243 at h
  unfold wL_chains_243
  refine ds_px_edit hab ?_ (dv_n 0 (by decide)) v_x4 v_x3 hR h
  intro c_r_4 r_4 M1 u1 v_r_4 R1 h
  obtain ⟨f0_made_5, am2501_8, am2502_11, am2503_14, am2504_17, am2505_20, am2506_23, am2507_26, am2508_29, am2509_32, am25010_35, am25011_38, am25012_41, am25013_44, am25014_47, am25015_50, am25016_53, am25017_56, am25018_59, am25019_62, am25020_65, am25021_68, am25022_71⟩ := u1
  refine dp_fs (dv_add v_x3 (dv_n 1 (by decide))) h (fun c2 v2 h => ?_)
  refine ds_px_edit hab ?_ (dv_n 1 (by decide)) v_x4 v2 R1 h
  intro c_r_72 r_72 M3 u3 v_r_72 R3 h
  obtain ⟨f0_made_73, am2621_76, am2622_79, am2623_82, am2624_85, am2625_88, am2626_91, am2627_94, am2628_97, am2629_100, am26210_103, am26211_106, am26212_109, am26213_112, am26214_115, am26215_118, am26216_121, am26217_124, am26218_127, am26219_130, am26220_133, am26221_136, am26222_139⟩ := u3
  refine dp_fs (dv_sub v_x3 (dv_n 5 (by decide))) h (fun c4 v4 h => ?_)
  refine ds_px_edit hab ?_ (dv_n 1 (by decide)) v_x4 v4 R3 h
  intro c_r_140 r_140 M5 u5 v_r_140 R5 h
  obtain ⟨f0_made_141, am2741_144, am2742_147, am2743_150, am2744_153, am2745_156, am2746_159, am2747_162, am2748_165, am2749_168, am27410_171, am27411_174, am27412_177, am27413_180, am27414_183, am27415_186, am27416_189, am27417_192, am27418_195, am27419_198, am27420_201, am27421_204, am27422_207⟩ := u5
  refine dp_eq hab v_z0 (dv_n 0 (by decide)) h (fun h => ?_) (fun h => ?_)
  · exact ds_l_chains_431 hab hk v_x1 v_x2 v_x3 v_x4 v_r_4 v_r_140 R5 h
  · refine dp_eq hab v_r_4 v_x1 h (fun h => ?_) (fun h => ?_)
    · refine dp_fs (dv_add v_x1 (dv_n 1 (by decide))) h (fun c6 v6 h => ?_)
      refine dp_eq hab v_r_72 v6 h (fun h => ?_) (fun h => ?_)
      · refine dp_fs (dv_add v_x1 (dv_n 2 (by decide))) h (fun c7 v7 h => ?_)
        refine dp_eq hab v_r_140 v7 h (fun h => ?_) (fun h => ?_)
        · refine ds_px_copy hab ?_ (dv_n 1 (by decide)) (dv_n 0 (by decide)) R5 h
          intro c_r_1008 r_1008 M8 u8 v_r_1008 R8 h
          obtain ⟨f0_made_1009, am3091_1012, am3092_1015, am3093_1018, am3094_1021, am3095_1024, am3096_1027, am3097_1030, am3098_1033, am3099_1036, am30910_1039, am30911_1042, am30912_1045, am30913_1048, am30914_1051, am30915_1054, am30916_1057, am30917_1060, am30918_1063, am30919_1066, am30920_1069, am30921_1072, am30922_1075⟩ := u8
          refine dp_eq hab v_r_1008 (dv_n 1 (by decide)) h (fun h => ?_) (fun h => ?_)
          · refine ds_px_copy hab ?_ (dv_n 0 (by decide)) (dv_n 1 (by decide)) R8 h
            intro c_r_1077 r_1077 M9 u9 v_r_1077 R9 h
            obtain ⟨f0_made_1078, am3191_1081, am3192_1084, am3193_1087, am3194_1090, am3195_1093, am3196_1096, am3197_1099, am3198_1102, am3199_1105, am31910_1108, am31911_1111, am31912_1114, am31913_1117, am31914_1120, am31915_1123, am31916_1126, am31917_1129, am31918_1132, am31919_1135, am31920_1138, am31921_1141, am31922_1144⟩ := u9
            refine dp_eq hab v_r_1077 (dv_n 1 (by decide)) h (fun h => ?_) (fun h => ?_)
            · refine ds_px_agree hab ?_ (dv_n 0 (by decide)) (dv_n 1 (by decide)) R9 h
              intro c_r_1146 r_1146 v_r_1146 h
              refine dp_eq hab v_r_1146 (dv_n 0 (by decide)) h (fun h => ?_) (fun h => ?_)
              · exact ds_l_chains_431 hab hk v_x1 v_x2 v_x3 v_x4 v_r_4 v_r_140 R9 h
              · refine ds_px_leaves hab ?_ (dv_n 0 (by decide)) v_x4 R9 h
                intro c_r_1148 r_1148 v_r_1148 h
                refine dp_eq hab v_r_1148 (dv_n 2 (by decide)) h (fun h => ?_) (fun h => ?_)
                · refine ds_px_conflicts hab ?_ (dv_n 1 (by decide)) R9 h
                  intro c_r_1150 r_1150 v_r_1150 h
                  refine dp_eq hab v_r_1150 (dv_n 1 (by decide)) h (fun h => ?_) (fun h => ?_)
                  · refine ds_px_winner hab ?_ (dv_n 0 (by decide)) v_x4 R9 h
                    intro c_r_1152 r_1152 v_r_1152 h
                    refine dp_eq hab v_r_1152 v_r_140 h (fun h => ?_) (fun h => ?_)
                    · refine ds_px_leaf hab ?_ (dv_n 0 (by decide)) v_x4 (dv_n 1 (by decide)) R9 h
                      intro c_r_1154 r_1154 v_r_1154 h
                      refine dp_eq hab v_r_1154 v_r_4 h (fun h => ?_) (fun h => ?_)
                      · refine ds_px_leaf hab ?_ (dv_n 0 (by decide)) v_x4 (dv_n 2 (by decide)) R9 h
                        intro c_r_1156 r_1156 v_r_1156 h
                        refine dp_eq hab v_r_1156 dv_m1000000003 h (fun h => ?_) (fun h => ?_)
                        · refine ds_px_total hab ?_ (dv_n 0 (by decide)) R9 h
                          intro c_r_1158 r_1158 v_r_1158 h
                          refine dp_eq hab v_r_1158 v4 h (fun h => ?_) (fun h => ?_)
                          · refine ds_px_below hab ?_ (dv_n 0 (by decide)) v4 R9 h
                            intro c_r_1160 r_1160 v_r_1160 h
                            refine dp_eq hab v_r_1160 (dv_n 0 (by decide)) h (fun h => ?_) (fun h => ?_)
                            · refine dp_fs (dv_sub v_x3 (dv_n 4 (by decide))) h (fun c10 v10 h => ?_)
                              refine ds_px_below hab ?_ (dv_n 0 (by decide)) v10 R9 h
                              intro c_r_1162 r_1162 v_r_1162 h
                              refine dp_eq hab v_r_1162 (dv_n 1 (by decide)) h (fun h => ?_) (fun h => ?_)
                              · exact ds_l_chains_432 hab hk v_x1 v_x2 v_x3 v_x4 v_r_4 v_r_140 (dv_n 1 (by decide)) R9 h
                              · exact ds_l_chains_431 hab hk v_x1 v_x2 v_x3 v_x4 v_r_4 v_r_140 R9 h
                            · exact ds_l_chains_431 hab hk v_x1 v_x2 v_x3 v_x4 v_r_4 v_r_140 R9 h
                          · exact ds_l_chains_431 hab hk v_x1 v_x2 v_x3 v_x4 v_r_4 v_r_140 R9 h
                        · exact ds_l_chains_431 hab hk v_x1 v_x2 v_x3 v_x4 v_r_4 v_r_140 R9 h
                      · exact ds_l_chains_431 hab hk v_x1 v_x2 v_x3 v_x4 v_r_4 v_r_140 R9 h
                    · exact ds_l_chains_431 hab hk v_x1 v_x2 v_x3 v_x4 v_r_4 v_r_140 R9 h
                  · exact ds_l_chains_431 hab hk v_x1 v_x2 v_x3 v_x4 v_r_4 v_r_140 R9 h
                · exact ds_l_chains_431 hab hk v_x1 v_x2 v_x3 v_x4 v_r_4 v_r_140 R9 h
            · exact ds_l_chains_431 hab hk v_x1 v_x2 v_x3 v_x4 v_r_4 v_r_140 R9 h
          · exact ds_l_chains_431 hab hk v_x1 v_x2 v_x3 v_x4 v_r_4 v_r_140 R8 h
        · exact ds_l_chains_431 hab hk v_x1 v_x2 v_x3 v_x4 v_r_4 v_r_140 R5 h
      · exact ds_l_chains_431 hab hk v_x1 v_x2 v_x3 v_x4 v_r_4 v_r_140 R5 h
    · exact ds_l_chains_431 hab hk v_x1 v_x2 v_x3 v_x4 v_r_4 v_r_140 R5 h
noncomputable def dx_l_chains_242 (k : Nat → Nat → Bool) (c_x1 c_x2 c_x3 c_x4 : Nat) (M : Nat) : Bool := dx_l_chains_243 k c_x1 c_x2 c_x3 c_x4 0 M
theorem ds_l_chains_242 {a b : Int32} (hab : dx_ab a b) {post : Int32 → St2 → Prop} {x1 x2 x3 x4 : Int32} {f0_made : Int32} {a1 a2 a3 a4 a5 a6 a7 a8 a9 a10 a11 a12 a13 a14 a15 a16 a17 a18 a19 a20 a21 a22 : Nat → Int32} {k : Nat → Nat → Bool} {c_x1 c_x2 c_x3 c_x4 : Nat} {M : Nat} (hk : ∀ (c : Nat) (r : Int32) (M : Nat) (u : St2), dx_v a b c r → dx_R a b M u → k c M = true → post r u) (v_x1 : dx_v a b c_x1 x1) (v_x2 : dx_v a b c_x2 x2) (v_x3 : dx_v a b c_x3 x3) (v_x4 : dx_v a b c_x4 x4) (hR : dx_R a b M (f0_made, a1, a2, a3, a4, a5, a6, a7, a8, a9, a10, a11, a12, a13, a14, a15, a16, a17, a18, a19, a20, a21, a22)) (h : dx_l_chains_242 k c_x1 c_x2 c_x3 c_x4 M = true) : wL_chains_242 post x1 x2 x3 x4 f0_made a1 a2 a3 a4 a5 a6 a7 a8 a9 a10 a11 a12 a13 a14 a15 a16 a17 a18 a19 a20 a21 a22 := by
  unfold dx_l_chains_242 at h
  unfold wL_chains_242
  exact ds_l_chains_243 hab hk v_x1 v_x2 v_x3 v_x4 (dv_n 0 (by decide)) hR h
noncomputable def dx_l_chains_217 (k : Nat → Nat → Bool) (c_x1 c_x2 c_x3 c_x4 : Nat) (M : Nat) : Bool := dx_px_body (fun c_r_1309 => dx_eq c_r_1309 c_x2 (dx_px_body (fun c_r_1311 => dx_eq c_r_1311 8195 (dx_l_chains_243 k c_x1 c_x2 c_x3 c_x4 1 M) (dx_l_chains_242 k c_x1 c_x2 c_x3 c_x4 M)) 2 0 M) (dx_l_chains_242 k c_x1 c_x2 c_x3 c_x4 M)) 0 0 M
theorem ds_l_chains_217 {a b : Int32} (hab : dx_ab a b) {post : Int32 → St2 → Prop} {x1 x2 x3 x4 : Int32} {f0_made : Int32} {am1611 am1612 am1613 am1614 am1615 am1616 am1617 am1618 am1619 am16110 am16111 am16112 am16113 am16114 am16115 am16116 am16117 am16118 am16119 am16120 am16121 am16122 : Nat → Int32} {k : Nat → Nat → Bool} {c_x1 c_x2 c_x3 c_x4 : Nat} {M : Nat} (hk : ∀ (c : Nat) (r : Int32) (M : Nat) (u : St2), dx_v a b c r → dx_R a b M u → k c M = true → post r u) (v_x1 : dx_v a b c_x1 x1) (v_x2 : dx_v a b c_x2 x2) (v_x3 : dx_v a b c_x3 x3) (v_x4 : dx_v a b c_x4 x4) (hR : dx_R a b M (f0_made, am1611, am1612, am1613, am1614, am1615, am1616, am1617, am1618, am1619, am16110, am16111, am16112, am16113, am16114, am16115, am16116, am16117, am16118, am16119, am16120, am16121, am16122)) (h : dx_l_chains_217 k c_x1 c_x2 c_x3 c_x4 M = true) : wL_chains_217 post x1 x2 x3 x4 f0_made am1611 am1612 am1613 am1614 am1615 am1616 am1617 am1618 am1619 am16110 am16111 am16112 am16113 am16114 am16115 am16116 am16117 am16118 am16119 am16120 am16121 am16122 := by
  unfold dx_l_chains_217 at h
  unfold wL_chains_217
  refine ds_px_body hab ?_ (dv_n 0 (by decide)) (dv_n 0 (by decide)) hR h
  intro c_r_1309 r_1309 v_r_1309 h
  refine dp_eq hab v_r_1309 v_x2 h (fun h => ?_) (fun h => ?_)
  · refine ds_px_body hab ?_ (dv_n 2 (by decide)) (dv_n 0 (by decide)) hR h
    intro c_r_1311 r_1311 v_r_1311 h
    refine dp_eq hab v_r_1311 dv_m1000000003 h (fun h => ?_) (fun h => ?_)
    · exact ds_l_chains_243 hab hk v_x1 v_x2 v_x3 v_x4 (dv_n 1 (by decide)) hR h
    · exact ds_l_chains_242 hab hk v_x1 v_x2 v_x3 v_x4 hR h
  · exact ds_l_chains_242 hab hk v_x1 v_x2 v_x3 v_x4 hR h
noncomputable def dx_l_chains_141 (k : Nat → Nat → Bool) (c_x1 c_x2 c_x3 c_x4 c_z0 : Nat) (M : Nat) : Bool := dx_eq c_z0 0 (dx_l_chains_242 k c_x1 c_x2 c_x3 c_x4 M) (dx_px_copy (fun c_r_1164 M1 => dx_eq c_r_1164 1 (dx_px_copy (fun c_r_1233 M2 => dx_eq c_r_1233 0 (dx_px_agree (fun c_r_1302 => dx_eq c_r_1302 0 (dx_l_chains_242 k c_x1 c_x2 c_x3 c_x4 M2) (dx_px_count (fun c_r_1304 => dx_eq c_r_1304 1 (dx_fs (dx_sub c_x1 1) (fun c3 => dx_px_body (fun c_r_1306 => dx_fs (dx_sub (dx_add c_x2 c_x1) 1) (fun c4 => dx_eq c_r_1306 c4 (dx_ls c_x1 2 (dx_l_chains_217 k c_x1 c_x2 c_x3 c_x4 M2) (dx_px_body (fun c_r_1313 => dx_eq c_r_1313 8196 (dx_l_chains_217 k c_x1 c_x2 c_x3 c_x4 M2) (dx_l_chains_242 k c_x1 c_x2 c_x3 c_x4 M2)) 1 0 M2)) (dx_l_chains_242 k c_x1 c_x2 c_x3 c_x4 M2))) 1 c3 M2)) (dx_l_chains_242 k c_x1 c_x2 c_x3 c_x4 M2)) 1 M2)) 0 1 M2) (dx_l_chains_242 k c_x1 c_x2 c_x3 c_x4 M2)) 0 1 M1) (dx_l_chains_242 k c_x1 c_x2 c_x3 c_x4 M1)) 0 1 M)
theorem ds_l_chains_141 {a b : Int32} (hab : dx_ab a b) {post : Int32 → St2 → Prop} {x1 x2 x3 x4 z0 : Int32} {f0_made : Int32} {a1 a2 a3 a4 a5 a6 a7 a8 a9 a10 a11 a12 a13 a14 a15 a16 a17 a18 a19 a20 a21 a22 : Nat → Int32} {k : Nat → Nat → Bool} {c_x1 c_x2 c_x3 c_x4 c_z0 : Nat} {M : Nat} (hk : ∀ (c : Nat) (r : Int32) (M : Nat) (u : St2), dx_v a b c r → dx_R a b M u → k c M = true → post r u) (v_x1 : dx_v a b c_x1 x1) (v_x2 : dx_v a b c_x2 x2) (v_x3 : dx_v a b c_x3 x3) (v_x4 : dx_v a b c_x4 x4) (v_z0 : dx_v a b c_z0 z0) (hR : dx_R a b M (f0_made, a1, a2, a3, a4, a5, a6, a7, a8, a9, a10, a11, a12, a13, a14, a15, a16, a17, a18, a19, a20, a21, a22)) (h : dx_l_chains_141 k c_x1 c_x2 c_x3 c_x4 c_z0 M = true) : wL_chains_141 post x1 x2 x3 x4 z0 f0_made a1 a2 a3 a4 a5 a6 a7 a8 a9 a10 a11 a12 a13 a14 a15 a16 a17 a18 a19 a20 a21 a22 := by
  unfold dx_l_chains_141 at h
  refine dp_eq hab v_z0 (dv_n 0 (by decide)) h (fun h => ?_) (fun h => ?_)
  · exact ds_l_chains_242 hab hk v_x1 v_x2 v_x3 v_x4 hR h
  · refine ds_px_copy hab ?_ (dv_n 0 (by decide)) (dv_n 1 (by decide)) hR h
    intro c_r_1164 r_1164 M1 u1 v_r_1164 R1 h
    obtain ⟨f0_made_1165, am1511_1168, am1512_1171, am1513_1174, am1514_1177, am1515_1180, am1516_1183, am1517_1186, am1518_1189, am1519_1192, am15110_1195, am15111_1198, am15112_1201, am15113_1204, am15114_1207, am15115_1210, am15116_1213, am15117_1216, am15118_1219, am15119_1222, am15120_1225, am15121_1228, am15122_1231⟩ := u1
    refine dp_eq hab v_r_1164 (dv_n 1 (by decide)) h (fun h => ?_) (fun h => ?_)
    · refine ds_px_copy hab ?_ (dv_n 0 (by decide)) (dv_n 1 (by decide)) R1 h
      intro c_r_1233 r_1233 M2 u2 v_r_1233 R2 h
      obtain ⟨f0_made_1234, am1611_1237, am1612_1240, am1613_1243, am1614_1246, am1615_1249, am1616_1252, am1617_1255, am1618_1258, am1619_1261, am16110_1264, am16111_1267, am16112_1270, am16113_1273, am16114_1276, am16115_1279, am16116_1282, am16117_1285, am16118_1288, am16119_1291, am16120_1294, am16121_1297, am16122_1300⟩ := u2
      refine dp_eq hab v_r_1233 (dv_n 0 (by decide)) h (fun h => ?_) (fun h => ?_)
      · refine ds_px_agree hab ?_ (dv_n 0 (by decide)) (dv_n 1 (by decide)) R2 h
        intro c_r_1302 r_1302 v_r_1302 h
        refine dp_eq hab v_r_1302 (dv_n 0 (by decide)) h (fun h => ?_) (fun h => ?_)
        · exact ds_l_chains_242 hab hk v_x1 v_x2 v_x3 v_x4 R2 h
        · refine ds_px_count hab ?_ (dv_n 1 (by decide)) R2 h
          intro c_r_1304 r_1304 v_r_1304 h
          refine dp_eq hab v_r_1304 (dv_n 1 (by decide)) h (fun h => ?_) (fun h => ?_)
          · refine dp_fs (dv_sub v_x1 (dv_n 1 (by decide))) h (fun c3 v3 h => ?_)
            refine ds_px_body hab ?_ (dv_n 1 (by decide)) v3 R2 h
            intro c_r_1306 r_1306 v_r_1306 h
            refine dp_fs (dv_sub (dv_add v_x2 v_x1) (dv_n 1 (by decide))) h (fun c4 v4 h => ?_)
            refine dp_eq hab v_r_1306 v4 h (fun h => ?_) (fun h => ?_)
            · refine dp_ls hab v_x1 (dv_n 2 (by decide)) h (fun h => ?_) (fun h => ?_)
              · exact ds_l_chains_217 hab hk v_x1 v_x2 v_x3 v_x4 R2 h
              · refine ds_px_body hab ?_ (dv_n 1 (by decide)) (dv_n 0 (by decide)) R2 h
                intro c_r_1313 r_1313 v_r_1313 h
                refine dp_eq hab v_r_1313 dv_m1000000004 h (fun h => ?_) (fun h => ?_)
                · exact ds_l_chains_217 hab hk v_x1 v_x2 v_x3 v_x4 R2 h
                · exact ds_l_chains_242 hab hk v_x1 v_x2 v_x3 v_x4 R2 h
            · exact ds_l_chains_242 hab hk v_x1 v_x2 v_x3 v_x4 R2 h
          · exact ds_l_chains_242 hab hk v_x1 v_x2 v_x3 v_x4 R2 h
      · exact ds_l_chains_242 hab hk v_x1 v_x2 v_x3 v_x4 R2 h
    · exact ds_l_chains_242 hab hk v_x1 v_x2 v_x3 v_x4 R1 h
noncomputable def dx_l_chains_140 (k : Nat → Nat → Bool) (c_x1 c_x2 c_x3 c_x4 : Nat) (M : Nat) : Bool := dx_l_chains_141 k c_x1 c_x2 c_x3 c_x4 0 M
theorem ds_l_chains_140 {a b : Int32} (hab : dx_ab a b) {post : Int32 → St2 → Prop} {x1 x2 x3 x4 : Int32} {f0_made : Int32} {a1 a2 a3 a4 a5 a6 a7 a8 a9 a10 a11 a12 a13 a14 a15 a16 a17 a18 a19 a20 a21 a22 : Nat → Int32} {k : Nat → Nat → Bool} {c_x1 c_x2 c_x3 c_x4 : Nat} {M : Nat} (hk : ∀ (c : Nat) (r : Int32) (M : Nat) (u : St2), dx_v a b c r → dx_R a b M u → k c M = true → post r u) (v_x1 : dx_v a b c_x1 x1) (v_x2 : dx_v a b c_x2 x2) (v_x3 : dx_v a b c_x3 x3) (v_x4 : dx_v a b c_x4 x4) (hR : dx_R a b M (f0_made, a1, a2, a3, a4, a5, a6, a7, a8, a9, a10, a11, a12, a13, a14, a15, a16, a17, a18, a19, a20, a21, a22)) (h : dx_l_chains_140 k c_x1 c_x2 c_x3 c_x4 M = true) : wL_chains_140 post x1 x2 x3 x4 f0_made a1 a2 a3 a4 a5 a6 a7 a8 a9 a10 a11 a12 a13 a14 a15 a16 a17 a18 a19 a20 a21 a22 := by
  unfold dx_l_chains_140 at h
  unfold wL_chains_140
  exact ds_l_chains_141 hab hk v_x1 v_x2 v_x3 v_x4 (dv_n 0 (by decide)) hR h
noncomputable def dx_l_chains_122 (k : Nat → Nat → Bool) (c_x1 c_x2 c_x3 c_x4 c_z0 c_z1 : Nat) (M : Nat) : Bool := dx_eq c_z1 c_z0 (dx_px_leaves (fun c_r_1326 => dx_eq c_r_1326 1 (dx_l_chains_141 k c_x1 c_x2 c_x3 c_x4 1 M) (dx_l_chains_140 k c_x1 c_x2 c_x3 c_x4 M)) 0 c_x4 M) (dx_l_chains_140 k c_x1 c_x2 c_x3 c_x4 M)
theorem ds_l_chains_122 {a b : Int32} (hab : dx_ab a b) {post : Int32 → St2 → Prop} {x1 x2 x3 x4 z0 z1 : Int32} {f0_made : Int32} {a1 a2 a3 a4 a5 a6 a7 a8 a9 a10 a11 a12 a13 a14 a15 a16 a17 a18 a19 a20 a21 a22 : Nat → Int32} {k : Nat → Nat → Bool} {c_x1 c_x2 c_x3 c_x4 c_z0 c_z1 : Nat} {M : Nat} (hk : ∀ (c : Nat) (r : Int32) (M : Nat) (u : St2), dx_v a b c r → dx_R a b M u → k c M = true → post r u) (v_x1 : dx_v a b c_x1 x1) (v_x2 : dx_v a b c_x2 x2) (v_x3 : dx_v a b c_x3 x3) (v_x4 : dx_v a b c_x4 x4) (v_z0 : dx_v a b c_z0 z0) (v_z1 : dx_v a b c_z1 z1) (hR : dx_R a b M (f0_made, a1, a2, a3, a4, a5, a6, a7, a8, a9, a10, a11, a12, a13, a14, a15, a16, a17, a18, a19, a20, a21, a22)) (h : dx_l_chains_122 k c_x1 c_x2 c_x3 c_x4 c_z0 c_z1 M = true) : wL_chains_122 post x1 x2 x3 x4 z0 z1 f0_made a1 a2 a3 a4 a5 a6 a7 a8 a9 a10 a11 a12 a13 a14 a15 a16 a17 a18 a19 a20 a21 a22 := by
  unfold dx_l_chains_122 at h
  refine dp_eq hab v_z1 v_z0 h (fun h => ?_) (fun h => ?_)
  · refine ds_px_leaves hab ?_ (dv_n 0 (by decide)) v_x4 hR h
    intro c_r_1326 r_1326 v_r_1326 h
    refine dp_eq hab v_r_1326 (dv_n 1 (by decide)) h (fun h => ?_) (fun h => ?_)
    · exact ds_l_chains_141 hab hk v_x1 v_x2 v_x3 v_x4 (dv_n 1 (by decide)) hR h
    · exact ds_l_chains_140 hab hk v_x1 v_x2 v_x3 v_x4 hR h
  · exact ds_l_chains_140 hab hk v_x1 v_x2 v_x3 v_x4 hR h
noncomputable def dx_l_chains_6_b (k : Nat → Nat → Bool) (c_x1 c_x2 c_x3 c_x4 : Nat) (ih : Nat → Nat → Nat → Bool) (c_x5 c_x6 M : Nat) : Bool := dx_le 8 c_x6 (dx_eq c_x5 0 (dx_l_chains_140 k c_x1 c_x2 c_x3 c_x4 M) (dx_px_count (fun c_r_1315 => dx_eq c_r_1315 c_x1 (dx_px_stamp (fun c_r_1317 => dx_eq c_r_1317 c_x1 (dx_fs (dx_sub c_x1 1) (fun c1 => dx_px_revision (fun c_r_1319 => dx_eq c_r_1319 c_x1 (dx_px_revision (fun c_r_1321 => dx_eq c_r_1321 8195 (dx_px_revision (fun c_r_1323 => dx_le c_x1 1 (dx_l_chains_122 k c_x1 c_x2 c_x3 c_x4 8195 c_r_1323 M) (dx_fs (dx_sub c_x1 2) (fun c2 => dx_l_chains_122 k c_x1 c_x2 c_x3 c_x4 c2 c_r_1323 M))) c1 1 M) (dx_l_chains_140 k c_x1 c_x2 c_x3 c_x4 M)) 0 1 M) (dx_l_chains_140 k c_x1 c_x2 c_x3 c_x4 M)) c1 2 M)) (dx_l_chains_140 k c_x1 c_x2 c_x3 c_x4 M)) 0 c_x4 M) (dx_l_chains_140 k c_x1 c_x2 c_x3 c_x4 M)) 0 M)) (dx_eq c_x5 0 (dx_fs (dx_add c_x6 1) (fun c_x6_1329 => ih 0 c_x6_1329 M)) (dx_le c_x1 c_x6 (dx_fs (dx_add c_x6 1) (fun c_x6_1331 => ih 1 c_x6_1331 M)) (dx_fs (dx_add c_x2 c_x6) (fun c3 => dx_px_edit (fun c_r_1332 M4 => dx_eq c_r_1332 c_x6 (dx_fs (dx_add c_x6 1) (fun c_x6_1402 => ih 1 c_x6_1402 M4)) (dx_fs (dx_add c_x6 1) (fun c_x6_1401 => ih 0 c_x6_1401 M4))) 0 c_x4 c3 M))))
noncomputable def dx_l_chains_6 (k : Nat → Nat → Bool) (c_x1 c_x2 c_x3 c_x4 : Nat) (n : Nat) : Nat → Nat → Nat → Bool := Nat.rec (motive := fun _ => Nat → Nat → Nat → Bool) (fun _ _ _ => false) (fun _ ih => dx_l_chains_6_b k c_x1 c_x2 c_x3 c_x4 ih) n
theorem ds_l_chains_6 {a b : Int32} (hab : dx_ab a b) {post : Int32 → St2 → Prop} {x1 x2 x3 x4 : Int32} {k : Nat → Nat → Bool} {c_x1 c_x2 c_x3 c_x4 : Nat} (hk : ∀ (c : Nat) (r : Int32) (M : Nat) (u : St2), dx_v a b c r → dx_R a b M u → k c M = true → post r u) (v_x1 : dx_v a b c_x1 x1) (v_x2 : dx_v a b c_x2 x2) (v_x3 : dx_v a b c_x3 x3) (v_x4 : dx_v a b c_x4 x4) : ∀ (n : Nat) {x5 x6 : Int32} {f0_made : Int32} {a1 a2 a3 a4 a5 a6 a7 a8 a9 a10 a11 a12 a13 a14 a15 a16 a17 a18 a19 a20 a21 a22 : Nat → Int32} {c_x5 c_x6 : Nat} {M : Nat}, dx_v a b c_x5 x5 → dx_v a b c_x6 x6 → dx_R a b M (f0_made, a1, a2, a3, a4, a5, a6, a7, a8, a9, a10, a11, a12, a13, a14, a15, a16, a17, a18, a19, a20, a21, a22) → dx_l_chains_6 k c_x1 c_x2 c_x3 c_x4 n c_x5 c_x6 M = true → wL_chains_6 post x1 x2 x3 x4 n x5 x6 f0_made a1 a2 a3 a4 a5 a6 a7 a8 a9 a10 a11 a12 a13 a14 a15 a16 a17 a18 a19 a20 a21 a22 := by
  intro n
  induction n with
  | zero =>
    intro x5 x6 f0_made a1 a2 a3 a4 a5 a6 a7 a8 a9 a10 a11 a12 a13 a14 a15 a16 a17 a18 a19 a20 a21 a22 c_x5 c_x6 M v_x5 v_x6 hR h
    exact absurd (show false = true from h) (by decide)
  | succ n ih =>
    intro x5 x6 f0_made a1 a2 a3 a4 a5 a6 a7 a8 a9 a10 a11 a12 a13 a14 a15 a16 a17 a18 a19 a20 a21 a22 c_x5 c_x6 M v_x5 v_x6 hR h
    replace h : dx_l_chains_6_b k c_x1 c_x2 c_x3 c_x4 (dx_l_chains_6 k c_x1 c_x2 c_x3 c_x4 n) c_x5 c_x6 M = true := h
    unfold dx_l_chains_6_b at h
    refine dp_le hab (dv_n 8 (by decide)) v_x6 h (fun h => ?_) (fun h => ?_)
    · refine dp_eq hab v_x5 (dv_n 0 (by decide)) h (fun h => ?_) (fun h => ?_)
      · exact ds_l_chains_140 hab hk v_x1 v_x2 v_x3 v_x4 hR h
      · refine ds_px_count hab ?_ (dv_n 0 (by decide)) hR h
        intro c_r_1315 r_1315 v_r_1315 h
        refine dp_eq hab v_r_1315 v_x1 h (fun h => ?_) (fun h => ?_)
        · refine ds_px_stamp hab ?_ (dv_n 0 (by decide)) v_x4 hR h
          intro c_r_1317 r_1317 v_r_1317 h
          refine dp_eq hab v_r_1317 v_x1 h (fun h => ?_) (fun h => ?_)
          · refine dp_fs (dv_sub v_x1 (dv_n 1 (by decide))) h (fun c1 v1 h => ?_)
            refine ds_px_revision hab ?_ v1 (dv_n 2 (by decide)) hR h
            intro c_r_1319 r_1319 v_r_1319 h
            refine dp_eq hab v_r_1319 v_x1 h (fun h => ?_) (fun h => ?_)
            · refine ds_px_revision hab ?_ (dv_n 0 (by decide)) (dv_n 1 (by decide)) hR h
              intro c_r_1321 r_1321 v_r_1321 h
              refine dp_eq hab v_r_1321 dv_m1000000003 h (fun h => ?_) (fun h => ?_)
              · refine ds_px_revision hab ?_ v1 (dv_n 1 (by decide)) hR h
                intro c_r_1323 r_1323 v_r_1323 h
                refine dp_le hab v_x1 (dv_n 1 (by decide)) h (fun h => ?_) (fun h => ?_)
                · exact ds_l_chains_122 hab hk v_x1 v_x2 v_x3 v_x4 dv_m1000000003 v_r_1323 hR h
                · refine dp_fs (dv_sub v_x1 (dv_n 2 (by decide))) h (fun c2 v2 h => ?_)
                  exact ds_l_chains_122 hab hk v_x1 v_x2 v_x3 v_x4 v2 v_r_1323 hR h
              · exact ds_l_chains_140 hab hk v_x1 v_x2 v_x3 v_x4 hR h
            · exact ds_l_chains_140 hab hk v_x1 v_x2 v_x3 v_x4 hR h
          · exact ds_l_chains_140 hab hk v_x1 v_x2 v_x3 v_x4 hR h
        · exact ds_l_chains_140 hab hk v_x1 v_x2 v_x3 v_x4 hR h
    · refine dp_eq hab v_x5 (dv_n 0 (by decide)) h (fun h => ?_) (fun h => ?_)
      · intro x6_1329 e_x6_1329
        refine dp_fs (dv_of e_x6_1329 (dv_add v_x6 (dv_n 1 (by decide)))) h (fun c_x6_1329 v_x6_1329 h => ?_)
        exact ih (dv_n 0 (by decide)) v_x6_1329 hR h
      · refine dp_le hab v_x1 v_x6 h (fun h => ?_) (fun h => ?_)
        · intro x6_1331 e_x6_1331
          refine dp_fs (dv_of e_x6_1331 (dv_add v_x6 (dv_n 1 (by decide)))) h (fun c_x6_1331 v_x6_1331 h => ?_)
          exact ih (dv_n 1 (by decide)) v_x6_1331 hR h
        · refine dp_fs (dv_add v_x2 v_x6) h (fun c3 v3 h => ?_)
          refine ds_px_edit hab ?_ (dv_n 0 (by decide)) v_x4 v3 hR h
          intro c_r_1332 r_1332 M4 u4 v_r_1332 R4 h
          obtain ⟨f0_made_1333, am321_1336, am322_1339, am323_1342, am324_1345, am325_1348, am326_1351, am327_1354, am328_1357, am329_1360, am3210_1363, am3211_1366, am3212_1369, am3213_1372, am3214_1375, am3215_1378, am3216_1381, am3217_1384, am3218_1387, am3219_1390, am3220_1393, am3221_1396, am3222_1399⟩ := u4
          refine dp_eq hab v_r_1332 v_x6 h (fun h => ?_) (fun h => ?_)
          · intro x6_1402 e_x6_1402
            refine dp_fs (dv_of e_x6_1402 (dv_add v_x6 (dv_n 1 (by decide)))) h (fun c_x6_1402 v_x6_1402 h => ?_)
            exact ih (dv_n 1 (by decide)) v_x6_1402 R4 h
          · intro x6_1401 e_x6_1401
            refine dp_fs (dv_of e_x6_1401 (dv_add v_x6 (dv_n 1 (by decide)))) h (fun c_x6_1401 v_x6_1401 h => ?_)
            exact ih (dv_n 0 (by decide)) v_x6_1401 R4 h
noncomputable def dx_pl_chains (k : Nat → Nat → Bool) (c_p1 c_p2 c_p3 c_p4 : Nat) (M : Nat) : Bool := dx_l_chains_6 k c_p1 c_p2 c_p3 c_p4 100 1 0 M
theorem ds_pl_chains {a b : Int32} (hab : dx_ab a b) {post : Int32 → St2 → Prop} {p1 p2 p3 p4 : Int32} {u : St2} {k : Nat → Nat → Bool} {c_p1 c_p2 c_p3 c_p4 : Nat} {M : Nat} (hk : ∀ (c : Nat) (r : Int32) (M : Nat) (u : St2), dx_v a b c r → dx_R a b M u → k c M = true → post r u) (v_p1 : dx_v a b c_p1 p1) (v_p2 : dx_v a b c_p2 p2) (v_p3 : dx_v a b c_p3 p3) (v_p4 : dx_v a b c_p4 p4) (hR : dx_R a b M u) (h : dx_pl_chains k c_p1 c_p2 c_p3 c_p4 M = true) : wpL_chains post u p1 p2 p3 p4 := by
  unfold dx_pl_chains at h
  obtain ⟨f0_made, a1, a2, a3, a4, a5, a6, a7, a8, a9, a10, a11, a12, a13, a14, a15, a16, a17, a18, a19, a20, a21, a22⟩ := u
  refine ⟨100, ?_⟩
  exact ds_l_chains_6 hab hk v_p1 v_p2 v_p3 v_p4 100 (dv_n 1 (by decide)) (dv_n 0 (by decide)) hR h
end
section
noncomputable def dx_l_lawOf_527 (k : Nat → Bool) (Jk : Nat → Nat → Nat → Bool) (c_x4 c_x12 c_x13 c_z0 c_z1 : Nat) (M : Nat) : Bool := dx_eq c_z1 c_z0 (dx_fs (dx_add c_x13 1) (fun c_x13_804 => Jk 1 c_x13_804 M)) (dx_fs (dx_add c_x13 1) (fun c_x13_803 => Jk 0 c_x13_803 M))
theorem ds_l_lawOf_527 {a b : Int32} (hab : dx_ab a b) {post : Int32 → St0 → Prop} {mc ms kc ks : Nat} {J477 : Int32 → Int32 → Int32 → (Nat → Int32) → (Nat → Int32) → (Nat → Int32) → (Nat → Int32) → (Nat → Int32) → (Nat → Int32) → (Nat → Int32) → (Nat → Int32) → (Nat → Int32) → (Nat → Int32) → (Nat → Int32) → (Nat → Int32) → (Nat → Int32) → (Nat → Int32) → (Nat → Int32) → (Nat → Int32) → (Nat → Int32) → (Nat → Int32) → (Nat → Int32) → (Nat → Int32) → (Nat → Int32) → (Nat → Int32) → Prop} {x4 x12 x13 z0 z1 : Int32} {fm65_made : Int32} {am4931 am4932 am4933 am4934 am4935 am4936 am4937 am4938 am4939 am49310 am49311 am49312 am49313 am49314 am49315 am49316 am49317 am49318 am49319 am49320 am49321 am49322 : Nat → Int32} {k : Nat → Bool} {Jk : Nat → Nat → Nat → Bool} {c_x4 c_x12 c_x13 c_z0 c_z1 : Nat} {M : Nat} (hk : ∀ (c : Nat) (r : Int32), dx_v a b c r → k c = true → post r ()) (hJ : ∀ {j0 j1 : Int32} {mj : Int32} {b1 b2 b3 b4 b5 b6 b7 b8 b9 b10 b11 b12 b13 b14 b15 b16 b17 b18 b19 b20 b21 b22 : Nat → Int32} {d0 d1 : Nat} {Mj : Nat}, dx_v a b d0 j0 → dx_v a b d1 j1 → dx_R a b Mj (mj, b1, b2, b3, b4, b5, b6, b7, b8, b9, b10, b11, b12, b13, b14, b15, b16, b17, b18, b19, b20, b21, b22) → Jk d0 d1 Mj = true → J477 j0 j1 mj b1 b2 b3 b4 b5 b6 b7 b8 b9 b10 b11 b12 b13 b14 b15 b16 b17 b18 b19 b20 b21 b22) (v_x4 : dx_v a b c_x4 x4) (v_x12 : dx_v a b c_x12 x12) (v_x13 : dx_v a b c_x13 x13) (v_z0 : dx_v a b c_z0 z0) (v_z1 : dx_v a b c_z1 z1) (hR : dx_R a b M (fm65_made, am4931, am4932, am4933, am4934, am4935, am4936, am4937, am4938, am4939, am49310, am49311, am49312, am49313, am49314, am49315, am49316, am49317, am49318, am49319, am49320, am49321, am49322)) (h : dx_l_lawOf_527 k Jk c_x4 c_x12 c_x13 c_z0 c_z1 M = true) : wL_lawOf_527 post mc ms J477 x4 x12 x13 z0 z1 kc ks fm65_made am4931 am4932 am4933 am4934 am4935 am4936 am4937 am4938 am4939 am49310 am49311 am49312 am49313 am49314 am49315 am49316 am49317 am49318 am49319 am49320 am49321 am49322 := by
  unfold dx_l_lawOf_527 at h
  refine dp_eq hab v_z1 v_z0 h (fun h => ?_) (fun h => ?_)
  · intro x13_804 e_x13_804
    refine dp_fs (dv_of e_x13_804 (dv_add v_x13 (dv_n 1 (by decide)))) h (fun c_x13_804 v_x13_804 h => ?_)
    exact hJ (dv_n 1 (by decide)) v_x13_804 hR h
  · intro x13_803 e_x13_803
    refine dp_fs (dv_of e_x13_803 (dv_add v_x13 (dv_n 1 (by decide)))) h (fun c_x13_803 v_x13_803 h => ?_)
    exact hJ (dv_n 0 (by decide)) v_x13_803 hR h
noncomputable def dx_l_lawOf_477_b (k : Nat → Bool) (c_x4 c_x12 : Nat) (ih : Nat → Nat → Nat → Bool) (c_x9 c_x13 M : Nat) : Bool := dx_le 8 c_x13 (dx_eq c_x9 0 (k 0) (dx_px_revisions (fun c_r_232 => dx_eq c_r_232 80 (dx_px_edit (fun c_r_234 M1 => dx_fs (dx_sub c_x4 1) (fun c2 => dx_eq c_r_234 c2 (dx_px_copy (fun c_r_303 M3 => dx_eq c_r_303 c_x4 (dx_px_copy (fun c_r_372 M4 => dx_eq c_r_372 c_x4 (dx_px_edit (fun c_r_441 M5 => dx_eq c_r_441 c_x4 (dx_px_edit (fun c_r_510 M6 => dx_eq c_r_510 c_x4 (dx_px_purge (fun c_r_579 M7 => dx_eq c_r_579 c_x4 (dx_px_revision (fun c_r_648 => dx_eq c_r_648 c_x4 (dx_px_revision (fun c_r_650 => dx_fs (dx_sub c_x4 2) (fun c8 => dx_eq c_r_650 c8 (dx_px_body (fun c_r_652 => dx_eq c_r_652 c8 (dx_px_knows (fun c_r_654 => dx_eq c_r_654 0 (dx_px_agree (fun c_r_656 => dx_eq c_r_656 0 (dx_px_agree (fun c_r_658 => dx_eq c_r_658 0 (k 0) (dx_px_stamp (fun c_r_660 => dx_eq c_r_660 c_x4 (dx_px_compact (fun c_r_662 M9 => dx_eq c_r_662 c_x4 (k 1) (k 0)) 8192 M7) (k 0)) 0 9 M7)) 0 0 M7) (k 0)) 0 3 M7) (k 0)) 0 80 M7) (k 0)) 0 80 M7) (k 0))) 80 0 M7) (k 0)) 0 4 M7) (k 0)) 0 8192 M6) (k 0)) 0 8 0 M5) (k 0)) 3 0 0 M4) (k 0)) 0 3 M3) (k 0)) 0 0 M1) (k 0))) 1 0 90 M) (k 0)) M)) (dx_fs (dx_add c_x13 70) (fun c10 => dx_px_edit (fun c_r_731 M11 => dx_eq c_x9 0 (dx_fs (dx_add c_x13 1) (fun c_x13_800 => ih 0 c_x13_800 M11)) (dx_le c_x12 c_x13 (dx_fs (dx_sub c_x4 1) (fun c12 => dx_l_lawOf_527 k ih c_x4 c_x12 c_x13 c12 c_r_731 M11)) (dx_fs (dx_add (dx_sub 80 c_x12) c_x13) (fun c13 => dx_l_lawOf_527 k ih c_x4 c_x12 c_x13 c13 c_r_731 M11)))) 0 0 c10 M))
noncomputable def dx_l_lawOf_477 (k : Nat → Bool) (c_x4 c_x12 : Nat) (n : Nat) : Nat → Nat → Nat → Bool := Nat.rec (motive := fun _ => Nat → Nat → Nat → Bool) (fun _ _ _ => false) (fun _ ih => dx_l_lawOf_477_b k c_x4 c_x12 ih) n
theorem ds_l_lawOf_477 {a b : Int32} (hab : dx_ab a b) {post : Int32 → St0 → Prop} {mc ms kc ks : Nat} {x4 x12 : Int32} {k : Nat → Bool} {c_x4 c_x12 : Nat} (hk : ∀ (c : Nat) (r : Int32), dx_v a b c r → k c = true → post r ()) (v_x4 : dx_v a b c_x4 x4) (v_x12 : dx_v a b c_x12 x12) : ∀ (n : Nat) {x9 x13 : Int32} {fm65_made : Int32} {am691 am692 am693 am694 am695 am696 am697 am698 am699 am6910 am6911 am6912 am6913 am6914 am6915 am6916 am6917 am6918 am6919 am6920 am6921 am6922 : Nat → Int32} {c_x9 c_x13 : Nat} {M : Nat}, dx_v a b c_x9 x9 → dx_v a b c_x13 x13 → dx_R a b M (fm65_made, am691, am692, am693, am694, am695, am696, am697, am698, am699, am6910, am6911, am6912, am6913, am6914, am6915, am6916, am6917, am6918, am6919, am6920, am6921, am6922) → dx_l_lawOf_477 k c_x4 c_x12 n c_x9 c_x13 M = true → wL_lawOf_477 post mc ms x4 x12 kc ks n x9 x13 fm65_made am691 am692 am693 am694 am695 am696 am697 am698 am699 am6910 am6911 am6912 am6913 am6914 am6915 am6916 am6917 am6918 am6919 am6920 am6921 am6922 := by
  intro n
  induction n with
  | zero =>
    intro x9 x13 fm65_made am691 am692 am693 am694 am695 am696 am697 am698 am699 am6910 am6911 am6912 am6913 am6914 am6915 am6916 am6917 am6918 am6919 am6920 am6921 am6922 c_x9 c_x13 M v_x9 v_x13 hR h
    exact absurd (show false = true from h) (by decide)
  | succ n ih =>
    intro x9 x13 fm65_made am691 am692 am693 am694 am695 am696 am697 am698 am699 am6910 am6911 am6912 am6913 am6914 am6915 am6916 am6917 am6918 am6919 am6920 am6921 am6922 c_x9 c_x13 M v_x9 v_x13 hR h
    replace h : dx_l_lawOf_477_b k c_x4 c_x12 (dx_l_lawOf_477 k c_x4 c_x12 n) c_x9 c_x13 M = true := h
    unfold dx_l_lawOf_477_b at h
    refine dp_le hab (dv_n 8 (by decide)) v_x13 h (fun h => ?_) (fun h => ?_)
    · refine dp_eq hab v_x9 (dv_n 0 (by decide)) h (fun h => ?_) (fun h => ?_)
      · exact hk _ _ (dv_n 0 (by decide)) h
      · refine ds_px_revisions hab ?_ hR h
        intro c_r_232 r_232 v_r_232 h
        refine dp_eq hab v_r_232 (dv_n 80 (by decide)) h (fun h => ?_) (fun h => ?_)
        · refine ds_px_edit hab ?_ (dv_n 1 (by decide)) (dv_n 0 (by decide)) (dv_n 90 (by decide)) hR h
          intro c_r_234 r_234 M1 u1 v_r_234 R1 h
          obtain ⟨fm65_made_235, am5641_238, am5642_241, am5643_244, am5644_247, am5645_250, am5646_253, am5647_256, am5648_259, am5649_262, am56410_265, am56411_268, am56412_271, am56413_274, am56414_277, am56415_280, am56416_283, am56417_286, am56418_289, am56419_292, am56420_295, am56421_298, am56422_301⟩ := u1
          refine dp_fs (dv_sub v_x4 (dv_n 1 (by decide))) h (fun c2 v2 h => ?_)
          refine dp_eq hab v_r_234 v2 h (fun h => ?_) (fun h => ?_)
          · refine ds_px_copy hab ?_ (dv_n 0 (by decide)) (dv_n 0 (by decide)) R1 h
            intro c_r_303 r_303 M3 u3 v_r_303 R3 h
            obtain ⟨fm65_made_304, am5781_307, am5782_310, am5783_313, am5784_316, am5785_319, am5786_322, am5787_325, am5788_328, am5789_331, am57810_334, am57811_337, am57812_340, am57813_343, am57814_346, am57815_349, am57816_352, am57817_355, am57818_358, am57819_361, am57820_364, am57821_367, am57822_370⟩ := u3
            refine dp_eq hab v_r_303 v_x4 h (fun h => ?_) (fun h => ?_)
            · refine ds_px_copy hab ?_ (dv_n 0 (by decide)) (dv_n 3 (by decide)) R3 h
              intro c_r_372 r_372 M4 u4 v_r_372 R4 h
              obtain ⟨fm65_made_373, am5901_376, am5902_379, am5903_382, am5904_385, am5905_388, am5906_391, am5907_394, am5908_397, am5909_400, am59010_403, am59011_406, am59012_409, am59013_412, am59014_415, am59015_418, am59016_421, am59017_424, am59018_427, am59019_430, am59020_433, am59021_436, am59022_439⟩ := u4
              refine dp_eq hab v_r_372 v_x4 h (fun h => ?_) (fun h => ?_)
              · refine ds_px_edit hab ?_ (dv_n 3 (by decide)) (dv_n 0 (by decide)) (dv_n 0 (by decide)) R4 h
                intro c_r_441 r_441 M5 u5 v_r_441 R5 h
                obtain ⟨fm65_made_442, am6031_445, am6032_448, am6033_451, am6034_454, am6035_457, am6036_460, am6037_463, am6038_466, am6039_469, am60310_472, am60311_475, am60312_478, am60313_481, am60314_484, am60315_487, am60316_490, am60317_493, am60318_496, am60319_499, am60320_502, am60321_505, am60322_508⟩ := u5
                refine dp_eq hab v_r_441 v_x4 h (fun h => ?_) (fun h => ?_)
                · refine ds_px_edit hab ?_ (dv_n 0 (by decide)) (dv_n 8 (by decide)) (dv_n 0 (by decide)) R5 h
                  intro c_r_510 r_510 M6 u6 v_r_510 R6 h
                  obtain ⟨fm65_made_511, am6171_514, am6172_517, am6173_520, am6174_523, am6175_526, am6176_529, am6177_532, am6178_535, am6179_538, am61710_541, am61711_544, am61712_547, am61713_550, am61714_553, am61715_556, am61716_559, am61717_562, am61718_565, am61719_568, am61720_571, am61721_574, am61722_577⟩ := u6
                  refine dp_eq hab v_r_510 v_x4 h (fun h => ?_) (fun h => ?_)
                  · refine ds_px_purge hab ?_ (dv_n 0 (by decide)) dv_m1 R6 h
                    intro c_r_579 r_579 M7 u7 v_r_579 R7 h
                    obtain ⟨fm65_made_580, am6291_583, am6292_586, am6293_589, am6294_592, am6295_595, am6296_598, am6297_601, am6298_604, am6299_607, am62910_610, am62911_613, am62912_616, am62913_619, am62914_622, am62915_625, am62916_628, am62917_631, am62918_634, am62919_637, am62920_640, am62921_643, am62922_646⟩ := u7
                    refine dp_eq hab v_r_579 v_x4 h (fun h => ?_) (fun h => ?_)
                    · refine ds_px_revision hab ?_ (dv_n 0 (by decide)) (dv_n 4 (by decide)) R7 h
                      intro c_r_648 r_648 v_r_648 h
                      refine dp_eq hab v_r_648 v_x4 h (fun h => ?_) (fun h => ?_)
                      · refine ds_px_revision hab ?_ (dv_n 80 (by decide)) (dv_n 0 (by decide)) R7 h
                        intro c_r_650 r_650 v_r_650 h
                        refine dp_fs (dv_sub v_x4 (dv_n 2 (by decide))) h (fun c8 v8 h => ?_)
                        refine dp_eq hab v_r_650 v8 h (fun h => ?_) (fun h => ?_)
                        · refine ds_px_body hab ?_ (dv_n 0 (by decide)) (dv_n 80 (by decide)) R7 h
                          intro c_r_652 r_652 v_r_652 h
                          refine dp_eq hab v_r_652 v8 h (fun h => ?_) (fun h => ?_)
                          · refine ds_px_knows hab ?_ (dv_n 0 (by decide)) (dv_n 80 (by decide)) R7 h
                            intro c_r_654 r_654 v_r_654 h
                            refine dp_eq hab v_r_654 (dv_n 0 (by decide)) h (fun h => ?_) (fun h => ?_)
                            · refine ds_px_agree hab ?_ (dv_n 0 (by decide)) (dv_n 3 (by decide)) R7 h
                              intro c_r_656 r_656 v_r_656 h
                              refine dp_eq hab v_r_656 (dv_n 0 (by decide)) h (fun h => ?_) (fun h => ?_)
                              · refine ds_px_agree hab ?_ (dv_n 0 (by decide)) (dv_n 0 (by decide)) R7 h
                                intro c_r_658 r_658 v_r_658 h
                                refine dp_eq hab v_r_658 (dv_n 0 (by decide)) h (fun h => ?_) (fun h => ?_)
                                · exact hk _ _ (dv_n 0 (by decide)) h
                                · refine ds_px_stamp hab ?_ (dv_n 0 (by decide)) (dv_n 9 (by decide)) R7 h
                                  intro c_r_660 r_660 v_r_660 h
                                  refine dp_eq hab v_r_660 v_x4 h (fun h => ?_) (fun h => ?_)
                                  · refine ds_px_compact hab ?_ dv_m1 R7 h
                                    intro c_r_662 r_662 M9 u9 v_r_662 R9 h
                                    obtain ⟨fm65_made_663, am7261_666, am7262_669, am7263_672, am7264_675, am7265_678, am7266_681, am7267_684, am7268_687, am7269_690, am72610_693, am72611_696, am72612_699, am72613_702, am72614_705, am72615_708, am72616_711, am72617_714, am72618_717, am72619_720, am72620_723, am72621_726, am72622_729⟩ := u9
                                    refine dp_eq hab v_r_662 v_x4 h (fun h => ?_) (fun h => ?_)
                                    · exact hk _ _ (dv_n 1 (by decide)) h
                                    · exact hk _ _ (dv_n 0 (by decide)) h
                                  · exact hk _ _ (dv_n 0 (by decide)) h
                              · exact hk _ _ (dv_n 0 (by decide)) h
                            · exact hk _ _ (dv_n 0 (by decide)) h
                          · exact hk _ _ (dv_n 0 (by decide)) h
                        · exact hk _ _ (dv_n 0 (by decide)) h
                      · exact hk _ _ (dv_n 0 (by decide)) h
                    · exact hk _ _ (dv_n 0 (by decide)) h
                  · exact hk _ _ (dv_n 0 (by decide)) h
                · exact hk _ _ (dv_n 0 (by decide)) h
              · exact hk _ _ (dv_n 0 (by decide)) h
            · exact hk _ _ (dv_n 0 (by decide)) h
          · exact hk _ _ (dv_n 0 (by decide)) h
        · exact hk _ _ (dv_n 0 (by decide)) h
    · refine dp_fs (dv_add v_x13 (dv_n 70 (by decide))) h (fun c10 v10 h => ?_)
      refine ds_px_edit hab ?_ (dv_n 0 (by decide)) (dv_n 0 (by decide)) v10 hR h
      intro c_r_731 r_731 M11 u11 v_r_731 R11 h
      obtain ⟨fm65_made_732, am4931_735, am4932_738, am4933_741, am4934_744, am4935_747, am4936_750, am4937_753, am4938_756, am4939_759, am49310_762, am49311_765, am49312_768, am49313_771, am49314_774, am49315_777, am49316_780, am49317_783, am49318_786, am49319_789, am49320_792, am49321_795, am49322_798⟩ := u11
      refine dp_eq hab v_x9 (dv_n 0 (by decide)) h (fun h => ?_) (fun h => ?_)
      · intro x13_800 e_x13_800
        refine dp_fs (dv_of e_x13_800 (dv_add v_x13 (dv_n 1 (by decide)))) h (fun c_x13_800 v_x13_800 h => ?_)
        exact ih (dv_n 0 (by decide)) v_x13_800 R11 h
      · refine dp_le hab v_x12 v_x13 h (fun h => ?_) (fun h => ?_)
        · refine dp_fs (dv_sub v_x4 (dv_n 1 (by decide))) h (fun c12 v12 h => ?_)
          exact ds_l_lawOf_527 hab hk (fun w0 w1 wR wh => ih w0 w1 wR wh) v_x4 v_x12 v_x13 v12 v_r_731 R11 h
        · refine dp_fs (dv_add (dv_sub (dv_n 80 (by decide)) v_x12) v_x13) h (fun c13 v13 h => ?_)
          exact ds_l_lawOf_527 hab hk (fun w0 w1 wR wh => ih w0 w1 wR wh) v_x4 v_x12 v_x13 v13 v_r_731 R11 h
noncomputable def dx_l_lawOf_406_b (k : Nat → Bool) (Jk : Nat → Nat → Nat → Bool) (c_x4 c_x12 : Nat) (ih : Nat → Nat → Nat → Bool) (c_x9 c_x13 M : Nat) : Bool := dx_le 10 c_x13 (dx_fs (dx_add c_x12 1) (fun c_x12_806 => Jk c_x9 c_x12_806 M)) (dx_fs (dx_an c_x13 8) (fun c1 => dx_px_edit (fun c_r_807 M2 => dx_eq c_x9 0 (dx_fs (dx_add c_x13 1) (fun c_x13_876 => ih 0 c_x13_876 M2)) (dx_ls c_r_807 0 (dx_fs (dx_add c_x13 1) (fun c_x13_878 => ih 0 c_x13_878 M2)) (dx_le 80 c_r_807 (dx_fs (dx_add c_x13 1) (fun c_x13_880 => ih 0 c_x13_880 M2)) (dx_fs (dx_add c_x13 1) (fun c_x13_881 => ih 1 c_x13_881 M2))))) 1 c1 c_x12 M))
noncomputable def dx_l_lawOf_406 (k : Nat → Bool) (Jk : Nat → Nat → Nat → Bool) (c_x4 c_x12 : Nat) (n : Nat) : Nat → Nat → Nat → Bool := Nat.rec (motive := fun _ => Nat → Nat → Nat → Bool) (fun _ _ _ => false) (fun _ ih => dx_l_lawOf_406_b k Jk c_x4 c_x12 ih) n
theorem ds_l_lawOf_406 {a b : Int32} (hab : dx_ab a b) {post : Int32 → St0 → Prop} {mc ms kc ks : Nat} {J396 : Int32 → Int32 → Int32 → (Nat → Int32) → (Nat → Int32) → (Nat → Int32) → (Nat → Int32) → (Nat → Int32) → (Nat → Int32) → (Nat → Int32) → (Nat → Int32) → (Nat → Int32) → (Nat → Int32) → (Nat → Int32) → (Nat → Int32) → (Nat → Int32) → (Nat → Int32) → (Nat → Int32) → (Nat → Int32) → (Nat → Int32) → (Nat → Int32) → (Nat → Int32) → (Nat → Int32) → (Nat → Int32) → (Nat → Int32) → Prop} {x4 x12 : Int32} {k : Nat → Bool} {Jk : Nat → Nat → Nat → Bool} {c_x4 c_x12 : Nat} (hk : ∀ (c : Nat) (r : Int32), dx_v a b c r → k c = true → post r ()) (hJ : ∀ {j0 j1 : Int32} {mj : Int32} {b1 b2 b3 b4 b5 b6 b7 b8 b9 b10 b11 b12 b13 b14 b15 b16 b17 b18 b19 b20 b21 b22 : Nat → Int32} {d0 d1 : Nat} {Mj : Nat}, dx_v a b d0 j0 → dx_v a b d1 j1 → dx_R a b Mj (mj, b1, b2, b3, b4, b5, b6, b7, b8, b9, b10, b11, b12, b13, b14, b15, b16, b17, b18, b19, b20, b21, b22) → Jk d0 d1 Mj = true → J396 j0 j1 mj b1 b2 b3 b4 b5 b6 b7 b8 b9 b10 b11 b12 b13 b14 b15 b16 b17 b18 b19 b20 b21 b22) (v_x4 : dx_v a b c_x4 x4) (v_x12 : dx_v a b c_x12 x12) : ∀ (n : Nat) {x9 x13 : Int32} {fm65_made : Int32} {am691 am692 am693 am694 am695 am696 am697 am698 am699 am6910 am6911 am6912 am6913 am6914 am6915 am6916 am6917 am6918 am6919 am6920 am6921 am6922 : Nat → Int32} {c_x9 c_x13 : Nat} {M : Nat}, dx_v a b c_x9 x9 → dx_v a b c_x13 x13 → dx_R a b M (fm65_made, am691, am692, am693, am694, am695, am696, am697, am698, am699, am6910, am6911, am6912, am6913, am6914, am6915, am6916, am6917, am6918, am6919, am6920, am6921, am6922) → dx_l_lawOf_406 k Jk c_x4 c_x12 n c_x9 c_x13 M = true → wL_lawOf_406 post mc ms J396 x4 x12 kc ks n x9 x13 fm65_made am691 am692 am693 am694 am695 am696 am697 am698 am699 am6910 am6911 am6912 am6913 am6914 am6915 am6916 am6917 am6918 am6919 am6920 am6921 am6922 := by
  intro n
  induction n with
  | zero =>
    intro x9 x13 fm65_made am691 am692 am693 am694 am695 am696 am697 am698 am699 am6910 am6911 am6912 am6913 am6914 am6915 am6916 am6917 am6918 am6919 am6920 am6921 am6922 c_x9 c_x13 M v_x9 v_x13 hR h
    exact absurd (show false = true from h) (by decide)
  | succ n ih =>
    intro x9 x13 fm65_made am691 am692 am693 am694 am695 am696 am697 am698 am699 am6910 am6911 am6912 am6913 am6914 am6915 am6916 am6917 am6918 am6919 am6920 am6921 am6922 c_x9 c_x13 M v_x9 v_x13 hR h
    replace h : dx_l_lawOf_406_b k Jk c_x4 c_x12 (dx_l_lawOf_406 k Jk c_x4 c_x12 n) c_x9 c_x13 M = true := h
    unfold dx_l_lawOf_406_b at h
    refine dp_le hab (dv_n 10 (by decide)) v_x13 h (fun h => ?_) (fun h => ?_)
    · intro x12_806 e_x12_806
      refine dp_fs (dv_of e_x12_806 (dv_add v_x12 (dv_n 1 (by decide)))) h (fun c_x12_806 v_x12_806 h => ?_)
      exact hJ v_x9 v_x12_806 hR h
    · refine dp_fs (dv_an7 v_x13) h (fun c1 v1 h => ?_)
      refine ds_px_edit hab ?_ (dv_n 1 (by decide)) v1 v_x12 hR h
      intro c_r_807 r_807 M2 u2 v_r_807 R2 h
      obtain ⟨fm65_made_808, am4231_811, am4232_814, am4233_817, am4234_820, am4235_823, am4236_826, am4237_829, am4238_832, am4239_835, am42310_838, am42311_841, am42312_844, am42313_847, am42314_850, am42315_853, am42316_856, am42317_859, am42318_862, am42319_865, am42320_868, am42321_871, am42322_874⟩ := u2
      refine dp_eq hab v_x9 (dv_n 0 (by decide)) h (fun h => ?_) (fun h => ?_)
      · intro x13_876 e_x13_876
        refine dp_fs (dv_of e_x13_876 (dv_add v_x13 (dv_n 1 (by decide)))) h (fun c_x13_876 v_x13_876 h => ?_)
        exact ih (dv_n 0 (by decide)) v_x13_876 R2 h
      · refine dp_ls hab v_r_807 (dv_n 0 (by decide)) h (fun h => ?_) (fun h => ?_)
        · intro x13_878 e_x13_878
          refine dp_fs (dv_of e_x13_878 (dv_add v_x13 (dv_n 1 (by decide)))) h (fun c_x13_878 v_x13_878 h => ?_)
          exact ih (dv_n 0 (by decide)) v_x13_878 R2 h
        · refine dp_le hab (dv_n 80 (by decide)) v_r_807 h (fun h => ?_) (fun h => ?_)
          · intro x13_880 e_x13_880
            refine dp_fs (dv_of e_x13_880 (dv_add v_x13 (dv_n 1 (by decide)))) h (fun c_x13_880 v_x13_880 h => ?_)
            exact ih (dv_n 0 (by decide)) v_x13_880 R2 h
          · intro x13_881 e_x13_881
            refine dp_fs (dv_of e_x13_881 (dv_add v_x13 (dv_n 1 (by decide)))) h (fun c_x13_881 v_x13_881 h => ?_)
            exact ih (dv_n 1 (by decide)) v_x13_881 R2 h
noncomputable def dx_l_lawOf_396_b (k : Nat → Bool) (c_x4 : Nat) (ih : Nat → Nat → Nat → Bool) (c_x9 c_x12 M : Nat) : Bool := dx_le 7 c_x12 (dx_px_revisions (fun c_r_228 => dx_fs (dx_sub 80 c_r_228) (fun c_x12_229 => dx_l_lawOf_477 k c_x4 c_x12_229 100 c_x9 0 M)) M) (dx_l_lawOf_406 k ih c_x4 c_x12 100 c_x9 0 M)
noncomputable def dx_l_lawOf_396 (k : Nat → Bool) (c_x4 : Nat) (n : Nat) : Nat → Nat → Nat → Bool := Nat.rec (motive := fun _ => Nat → Nat → Nat → Bool) (fun _ _ _ => false) (fun _ ih => dx_l_lawOf_396_b k c_x4 ih) n
theorem ds_l_lawOf_396 {a b : Int32} (hab : dx_ab a b) {post : Int32 → St0 → Prop} {mc ms kc ks : Nat} {x4 : Int32} {k : Nat → Bool} {c_x4 : Nat} (hk : ∀ (c : Nat) (r : Int32), dx_v a b c r → k c = true → post r ()) (v_x4 : dx_v a b c_x4 x4) : ∀ (n : Nat) {x9 x12 : Int32} {fm65_made : Int32} {am691 am692 am693 am694 am695 am696 am697 am698 am699 am6910 am6911 am6912 am6913 am6914 am6915 am6916 am6917 am6918 am6919 am6920 am6921 am6922 : Nat → Int32} {c_x9 c_x12 : Nat} {M : Nat}, dx_v a b c_x9 x9 → dx_v a b c_x12 x12 → dx_R a b M (fm65_made, am691, am692, am693, am694, am695, am696, am697, am698, am699, am6910, am6911, am6912, am6913, am6914, am6915, am6916, am6917, am6918, am6919, am6920, am6921, am6922) → dx_l_lawOf_396 k c_x4 n c_x9 c_x12 M = true → wL_lawOf_396 post mc ms x4 kc ks n x9 x12 fm65_made am691 am692 am693 am694 am695 am696 am697 am698 am699 am6910 am6911 am6912 am6913 am6914 am6915 am6916 am6917 am6918 am6919 am6920 am6921 am6922 := by
  intro n
  induction n with
  | zero =>
    intro x9 x12 fm65_made am691 am692 am693 am694 am695 am696 am697 am698 am699 am6910 am6911 am6912 am6913 am6914 am6915 am6916 am6917 am6918 am6919 am6920 am6921 am6922 c_x9 c_x12 M v_x9 v_x12 hR h
    exact absurd (show false = true from h) (by decide)
  | succ n ih =>
    intro x9 x12 fm65_made am691 am692 am693 am694 am695 am696 am697 am698 am699 am6910 am6911 am6912 am6913 am6914 am6915 am6916 am6917 am6918 am6919 am6920 am6921 am6922 c_x9 c_x12 M v_x9 v_x12 hR h
    replace h : dx_l_lawOf_396_b k c_x4 (dx_l_lawOf_396 k c_x4 n) c_x9 c_x12 M = true := h
    unfold dx_l_lawOf_396_b at h
    refine dp_le hab (dv_n 7 (by decide)) v_x12 h (fun h => ?_) (fun h => ?_)
    · refine ds_px_revisions hab ?_ hR h
      intro c_r_228 r_228 v_r_228 h
      intro x12_229 e_x12_229
      refine dp_fs (dv_of e_x12_229 (dv_sub (dv_n 80 (by decide)) v_r_228)) h (fun c_x12_229 v_x12_229 h => ?_)
      refine ⟨100, ?_⟩
      exact ds_l_lawOf_477 hab hk v_x4 v_x12_229 100 v_x9 (dv_n 0 (by decide)) hR h
    · refine ⟨100, ?_⟩
      exact ds_l_lawOf_406 hab hk (fun w0 w1 wR wh => ih w0 w1 wR wh) v_x4 v_x12 100 v_x9 (dv_n 0 (by decide)) hR h
noncomputable def dx_l_lawOf_249 (k : Nat → Bool) (c_x4 c_z0 c_z1 : Nat) (M : Nat) : Bool := dx_eq c_z1 c_z0 (dx_px_copy (fun c_r_890 M1 => dx_eq c_r_890 8 (dx_px_count (fun c_r_959 => dx_eq c_r_959 8 (dx_px_stamp (fun c_r_961 => dx_eq c_r_961 8 (dx_px_stamp (fun c_r_963 => dx_eq c_r_963 1 (dx_px_edit (fun c_r_965 M2 => dx_eq c_r_965 8 (dx_px_edit (fun c_r_1034 M3 => dx_eq c_r_1034 9 (dx_px_copy (fun c_r_1103 M4 => dx_eq c_r_1103 2 (dx_px_stamp (fun c_r_1172 => dx_eq c_r_1172 9 (dx_px_stamp (fun c_r_1174 => dx_eq c_r_1174 10 (dx_px_viewed (fun c_r_1176 => dx_eq c_r_1176 1 (dx_px_viewed (fun c_r_1178 => dx_eq c_r_1178 3 (dx_l_lawOf_396 k c_x4 100 1 0 M4) (dx_l_lawOf_396 k c_x4 100 0 0 M4)) 0 6 M4) (dx_l_lawOf_396 k c_x4 100 0 0 M4)) 0 7 M4) (dx_l_lawOf_396 k c_x4 100 0 0 M4)) 0 1 M4) (dx_l_lawOf_396 k c_x4 100 0 0 M4)) 0 3 M4) (dx_l_lawOf_396 k c_x4 100 0 0 M4)) 2 0 M3) (dx_l_lawOf_396 k c_x4 100 0 0 M3)) 2 1 60 M2) (dx_l_lawOf_396 k c_x4 100 0 0 M2)) 2 3 50 M1) (dx_l_lawOf_396 k c_x4 100 0 0 M1)) 0 0 M1) (dx_l_lawOf_396 k c_x4 100 0 0 M1)) 0 7 M1) (dx_l_lawOf_396 k c_x4 100 0 0 M1)) 0 M1) (dx_l_lawOf_396 k c_x4 100 0 0 M1)) 2 0 M) (dx_l_lawOf_396 k c_x4 100 0 0 M)
theorem ds_l_lawOf_249 {a b : Int32} (hab : dx_ab a b) {post : Int32 → St0 → Prop} {mc ms kc ks : Nat} {x4 z0 z1 : Int32} {fm65_made : Int32} {am691 am692 am693 am694 am695 am696 am697 am698 am699 am6910 am6911 am6912 am6913 am6914 am6915 am6916 am6917 am6918 am6919 am6920 am6921 am6922 : Nat → Int32} {k : Nat → Bool} {c_x4 c_z0 c_z1 : Nat} {M : Nat} (hk : ∀ (c : Nat) (r : Int32), dx_v a b c r → k c = true → post r ()) (v_x4 : dx_v a b c_x4 x4) (v_z0 : dx_v a b c_z0 z0) (v_z1 : dx_v a b c_z1 z1) (hR : dx_R a b M (fm65_made, am691, am692, am693, am694, am695, am696, am697, am698, am699, am6910, am6911, am6912, am6913, am6914, am6915, am6916, am6917, am6918, am6919, am6920, am6921, am6922)) (h : dx_l_lawOf_249 k c_x4 c_z0 c_z1 M = true) : wL_lawOf_249 post mc ms x4 z0 z1 kc ks fm65_made am691 am692 am693 am694 am695 am696 am697 am698 am699 am6910 am6911 am6912 am6913 am6914 am6915 am6916 am6917 am6918 am6919 am6920 am6921 am6922 := by
  unfold dx_l_lawOf_249 at h
  refine dp_eq hab v_z1 v_z0 h (fun h => ?_) (fun h => ?_)
  · refine ds_px_copy hab ?_ (dv_n 2 (by decide)) (dv_n 0 (by decide)) hR h
    intro c_r_890 r_890 M1 u1 v_r_890 R1 h
    obtain ⟨fm65_made_891, am2561_894, am2562_897, am2563_900, am2564_903, am2565_906, am2566_909, am2567_912, am2568_915, am2569_918, am25610_921, am25611_924, am25612_927, am25613_930, am25614_933, am25615_936, am25616_939, am25617_942, am25618_945, am25619_948, am25620_951, am25621_954, am25622_957⟩ := u1
    refine dp_eq hab v_r_890 (dv_n 8 (by decide)) h (fun h => ?_) (fun h => ?_)
    · refine ds_px_count hab ?_ (dv_n 0 (by decide)) R1 h
      intro c_r_959 r_959 v_r_959 h
      refine dp_eq hab v_r_959 (dv_n 8 (by decide)) h (fun h => ?_) (fun h => ?_)
      · refine ds_px_stamp hab ?_ (dv_n 0 (by decide)) (dv_n 7 (by decide)) R1 h
        intro c_r_961 r_961 v_r_961 h
        refine dp_eq hab v_r_961 (dv_n 8 (by decide)) h (fun h => ?_) (fun h => ?_)
        · refine ds_px_stamp hab ?_ (dv_n 0 (by decide)) (dv_n 0 (by decide)) R1 h
          intro c_r_963 r_963 v_r_963 h
          refine dp_eq hab v_r_963 (dv_n 1 (by decide)) h (fun h => ?_) (fun h => ?_)
          · refine ds_px_edit hab ?_ (dv_n 2 (by decide)) (dv_n 3 (by decide)) (dv_n 50 (by decide)) R1 h
            intro c_r_965 r_965 M2 u2 v_r_965 R2 h
            obtain ⟨fm65_made_966, am3051_969, am3052_972, am3053_975, am3054_978, am3055_981, am3056_984, am3057_987, am3058_990, am3059_993, am30510_996, am30511_999, am30512_1002, am30513_1005, am30514_1008, am30515_1011, am30516_1014, am30517_1017, am30518_1020, am30519_1023, am30520_1026, am30521_1029, am30522_1032⟩ := u2
            refine dp_eq hab v_r_965 (dv_n 8 (by decide)) h (fun h => ?_) (fun h => ?_)
            · refine ds_px_edit hab ?_ (dv_n 2 (by decide)) (dv_n 1 (by decide)) (dv_n 60 (by decide)) R2 h
              intro c_r_1034 r_1034 M3 u3 v_r_1034 R3 h
              obtain ⟨fm65_made_1035, am3191_1038, am3192_1041, am3193_1044, am3194_1047, am3195_1050, am3196_1053, am3197_1056, am3198_1059, am3199_1062, am31910_1065, am31911_1068, am31912_1071, am31913_1074, am31914_1077, am31915_1080, am31916_1083, am31917_1086, am31918_1089, am31919_1092, am31920_1095, am31921_1098, am31922_1101⟩ := u3
              refine dp_eq hab v_r_1034 (dv_n 9 (by decide)) h (fun h => ?_) (fun h => ?_)
              · refine ds_px_copy hab ?_ (dv_n 2 (by decide)) (dv_n 0 (by decide)) R3 h
                intro c_r_1103 r_1103 M4 u4 v_r_1103 R4 h
                obtain ⟨fm65_made_1104, am3311_1107, am3312_1110, am3313_1113, am3314_1116, am3315_1119, am3316_1122, am3317_1125, am3318_1128, am3319_1131, am33110_1134, am33111_1137, am33112_1140, am33113_1143, am33114_1146, am33115_1149, am33116_1152, am33117_1155, am33118_1158, am33119_1161, am33120_1164, am33121_1167, am33122_1170⟩ := u4
                refine dp_eq hab v_r_1103 (dv_n 2 (by decide)) h (fun h => ?_) (fun h => ?_)
                · refine ds_px_stamp hab ?_ (dv_n 0 (by decide)) (dv_n 3 (by decide)) R4 h
                  intro c_r_1172 r_1172 v_r_1172 h
                  refine dp_eq hab v_r_1172 (dv_n 9 (by decide)) h (fun h => ?_) (fun h => ?_)
                  · refine ds_px_stamp hab ?_ (dv_n 0 (by decide)) (dv_n 1 (by decide)) R4 h
                    intro c_r_1174 r_1174 v_r_1174 h
                    refine dp_eq hab v_r_1174 (dv_n 10 (by decide)) h (fun h => ?_) (fun h => ?_)
                    · refine ds_px_viewed hab ?_ (dv_n 0 (by decide)) (dv_n 7 (by decide)) R4 h
                      intro c_r_1176 r_1176 v_r_1176 h
                      refine dp_eq hab v_r_1176 (dv_n 1 (by decide)) h (fun h => ?_) (fun h => ?_)
                      · refine ds_px_viewed hab ?_ (dv_n 0 (by decide)) (dv_n 6 (by decide)) R4 h
                        intro c_r_1178 r_1178 v_r_1178 h
                        refine dp_eq hab v_r_1178 (dv_n 3 (by decide)) h (fun h => ?_) (fun h => ?_)
                        · refine ⟨100, ?_⟩
                          exact ds_l_lawOf_396 hab hk v_x4 100 (dv_n 1 (by decide)) (dv_n 0 (by decide)) R4 h
                        · refine ⟨100, ?_⟩
                          exact ds_l_lawOf_396 hab hk v_x4 100 (dv_n 0 (by decide)) (dv_n 0 (by decide)) R4 h
                      · refine ⟨100, ?_⟩
                        exact ds_l_lawOf_396 hab hk v_x4 100 (dv_n 0 (by decide)) (dv_n 0 (by decide)) R4 h
                    · refine ⟨100, ?_⟩
                      exact ds_l_lawOf_396 hab hk v_x4 100 (dv_n 0 (by decide)) (dv_n 0 (by decide)) R4 h
                  · refine ⟨100, ?_⟩
                    exact ds_l_lawOf_396 hab hk v_x4 100 (dv_n 0 (by decide)) (dv_n 0 (by decide)) R4 h
                · refine ⟨100, ?_⟩
                  exact ds_l_lawOf_396 hab hk v_x4 100 (dv_n 0 (by decide)) (dv_n 0 (by decide)) R4 h
              · refine ⟨100, ?_⟩
                exact ds_l_lawOf_396 hab hk v_x4 100 (dv_n 0 (by decide)) (dv_n 0 (by decide)) R3 h
            · refine ⟨100, ?_⟩
              exact ds_l_lawOf_396 hab hk v_x4 100 (dv_n 0 (by decide)) (dv_n 0 (by decide)) R2 h
          · refine ⟨100, ?_⟩
            exact ds_l_lawOf_396 hab hk v_x4 100 (dv_n 0 (by decide)) (dv_n 0 (by decide)) R1 h
        · refine ⟨100, ?_⟩
          exact ds_l_lawOf_396 hab hk v_x4 100 (dv_n 0 (by decide)) (dv_n 0 (by decide)) R1 h
      · refine ⟨100, ?_⟩
        exact ds_l_lawOf_396 hab hk v_x4 100 (dv_n 0 (by decide)) (dv_n 0 (by decide)) R1 h
    · refine ⟨100, ?_⟩
      exact ds_l_lawOf_396 hab hk v_x4 100 (dv_n 0 (by decide)) (dv_n 0 (by decide)) R1 h
  · refine ⟨100, ?_⟩
    exact ds_l_lawOf_396 hab hk v_x4 100 (dv_n 0 (by decide)) (dv_n 0 (by decide)) hR h
noncomputable def dx_l_lawOf_158 (k : Nat → Bool) (Jk : Nat → Nat → Bool) (c_x4 c_x9 c_x11 c_x12 c_z0 : Nat) (M : Nat) : Bool := dx_eq c_x9 0 (dx_fs (dx_add c_x12 1) (fun c_x12_1182 => Jk 0 c_x12_1182)) (dx_px_viewed (fun c_r_1183 => dx_eq c_r_1183 c_z0 (dx_fs (dx_add c_x12 1) (fun c_x12_1186 => Jk 1 c_x12_1186)) (dx_fs (dx_add c_x12 1) (fun c_x12_1185 => Jk 0 c_x12_1185))) 2 c_x12 M)
theorem ds_l_lawOf_158 {a b : Int32} (hab : dx_ab a b) {post : Int32 → St0 → Prop} {mc ms kc ks : Nat} {J130 : Int32 → Int32 → Prop} {x4 x9 x11 x12 z0 : Int32} {fm65_made : Int32} {am691 am692 am693 am694 am695 am696 am697 am698 am699 am6910 am6911 am6912 am6913 am6914 am6915 am6916 am6917 am6918 am6919 am6920 am6921 am6922 : Nat → Int32} {k : Nat → Bool} {Jk : Nat → Nat → Bool} {c_x4 c_x9 c_x11 c_x12 c_z0 : Nat} {M : Nat} (hk : ∀ (c : Nat) (r : Int32), dx_v a b c r → k c = true → post r ()) (hJ : ∀ {j0 j1 : Int32} {d0 d1 : Nat}, dx_v a b d0 j0 → dx_v a b d1 j1 → Jk d0 d1 = true → J130 j0 j1) (v_x4 : dx_v a b c_x4 x4) (v_x9 : dx_v a b c_x9 x9) (v_x11 : dx_v a b c_x11 x11) (v_x12 : dx_v a b c_x12 x12) (v_z0 : dx_v a b c_z0 z0) (hR : dx_R a b M (fm65_made, am691, am692, am693, am694, am695, am696, am697, am698, am699, am6910, am6911, am6912, am6913, am6914, am6915, am6916, am6917, am6918, am6919, am6920, am6921, am6922)) (h : dx_l_lawOf_158 k Jk c_x4 c_x9 c_x11 c_x12 c_z0 M = true) : wL_lawOf_158 post mc ms J130 x4 x9 x11 x12 z0 kc ks fm65_made am691 am692 am693 am694 am695 am696 am697 am698 am699 am6910 am6911 am6912 am6913 am6914 am6915 am6916 am6917 am6918 am6919 am6920 am6921 am6922 := by
  unfold dx_l_lawOf_158 at h
  refine dp_eq hab v_x9 (dv_n 0 (by decide)) h (fun h => ?_) (fun h => ?_)
  · intro x12_1182 e_x12_1182
    refine dp_fs (dv_of e_x12_1182 (dv_add v_x12 (dv_n 1 (by decide)))) h (fun c_x12_1182 v_x12_1182 h => ?_)
    exact hJ (dv_n 0 (by decide)) v_x12_1182 h
  · refine ds_px_viewed hab ?_ (dv_n 2 (by decide)) v_x12 hR h
    intro c_r_1183 r_1183 v_r_1183 h
    refine dp_eq hab v_r_1183 v_z0 h (fun h => ?_) (fun h => ?_)
    · intro x12_1186 e_x12_1186
      refine dp_fs (dv_of e_x12_1186 (dv_add v_x12 (dv_n 1 (by decide)))) h (fun c_x12_1186 v_x12_1186 h => ?_)
      exact hJ (dv_n 1 (by decide)) v_x12_1186 h
    · intro x12_1185 e_x12_1185
      refine dp_fs (dv_of e_x12_1185 (dv_add v_x12 (dv_n 1 (by decide)))) h (fun c_x12_1185 v_x12_1185 h => ?_)
      exact hJ (dv_n 0 (by decide)) v_x12_1185 h
noncomputable def dx_l_lawOf_130_b (k : Nat → Bool) (c_x4 c_x11 : Nat) (M : Nat) (ih : Nat → Nat → Bool) (c_x9 c_x12 : Nat) : Bool := dx_le 8 c_x12 (dx_eq c_x9 0 (dx_l_lawOf_396 k c_x4 100 0 0 M) (dx_px_size (fun c_r_882 => dx_eq c_r_882 8 (dx_px_total (fun c_r_884 => dx_fs (dx_mul 12 c_x11) (fun c1 => dx_eq c_r_884 c1 (dx_px_below (fun c_r_886 => dx_eq c_x11 0 (dx_l_lawOf_249 k c_x4 8 c_r_886 M) (dx_eq c_x11 1 (dx_l_lawOf_249 k c_x4 4 c_r_886 M) (dx_l_lawOf_249 k c_x4 2 c_r_886 M))) 2 2 M) (dx_l_lawOf_396 k c_x4 100 0 0 M))) 2 M) (dx_l_lawOf_396 k c_x4 100 0 0 M)) 2 M)) (dx_eq c_x11 0 (dx_l_lawOf_158 k ih c_x4 c_x9 c_x11 c_x12 c_x12 M) (dx_fs (dx_add (dx_hf c_x12) (dx_mul 4 (dx_an c_x12 2))) (fun c2 => dx_l_lawOf_158 k ih c_x4 c_x9 c_x11 c_x12 c2 M)))
noncomputable def dx_l_lawOf_130 (k : Nat → Bool) (c_x4 c_x11 : Nat) (M : Nat) (n : Nat) : Nat → Nat → Bool := Nat.rec (motive := fun _ => Nat → Nat → Bool) (fun _ _ => false) (fun _ ih => dx_l_lawOf_130_b k c_x4 c_x11 M ih) n
theorem ds_l_lawOf_130 {a b : Int32} (hab : dx_ab a b) {post : Int32 → St0 → Prop} {mc ms kc ks : Nat} {x4 x11 : Int32} {fm65_made : Int32} {am691 am692 am693 am694 am695 am696 am697 am698 am699 am6910 am6911 am6912 am6913 am6914 am6915 am6916 am6917 am6918 am6919 am6920 am6921 am6922 : Nat → Int32} {k : Nat → Bool} {c_x4 c_x11 : Nat} {M : Nat} (hk : ∀ (c : Nat) (r : Int32), dx_v a b c r → k c = true → post r ()) (v_x4 : dx_v a b c_x4 x4) (v_x11 : dx_v a b c_x11 x11) (hR : dx_R a b M (fm65_made, am691, am692, am693, am694, am695, am696, am697, am698, am699, am6910, am6911, am6912, am6913, am6914, am6915, am6916, am6917, am6918, am6919, am6920, am6921, am6922)) : ∀ (n : Nat) {x9 x12 : Int32} {c_x9 c_x12 : Nat}, dx_v a b c_x9 x9 → dx_v a b c_x12 x12 → dx_l_lawOf_130 k c_x4 c_x11 M n c_x9 c_x12 = true → wL_lawOf_130 post mc ms x4 x11 kc ks fm65_made am691 am692 am693 am694 am695 am696 am697 am698 am699 am6910 am6911 am6912 am6913 am6914 am6915 am6916 am6917 am6918 am6919 am6920 am6921 am6922 n x9 x12 := by
  intro n
  induction n with
  | zero =>
    intro x9 x12 c_x9 c_x12 v_x9 v_x12 h
    exact absurd (show false = true from h) (by decide)
  | succ n ih =>
    intro x9 x12 c_x9 c_x12 v_x9 v_x12 h
    replace h : dx_l_lawOf_130_b k c_x4 c_x11 M (dx_l_lawOf_130 k c_x4 c_x11 M n) c_x9 c_x12 = true := h
    unfold dx_l_lawOf_130_b at h
    refine dp_le hab (dv_n 8 (by decide)) v_x12 h (fun h => ?_) (fun h => ?_)
    · refine dp_eq hab v_x9 (dv_n 0 (by decide)) h (fun h => ?_) (fun h => ?_)
      · refine ⟨100, ?_⟩
        exact ds_l_lawOf_396 hab hk v_x4 100 (dv_n 0 (by decide)) (dv_n 0 (by decide)) hR h
      · refine ds_px_size hab ?_ (dv_n 2 (by decide)) hR h
        intro c_r_882 r_882 v_r_882 h
        refine dp_eq hab v_r_882 (dv_n 8 (by decide)) h (fun h => ?_) (fun h => ?_)
        · refine ds_px_total hab ?_ (dv_n 2 (by decide)) hR h
          intro c_r_884 r_884 v_r_884 h
          refine dp_fs (dv_mul (dv_n 12 (by decide)) v_x11) h (fun c1 v1 h => ?_)
          refine dp_eq hab v_r_884 v1 h (fun h => ?_) (fun h => ?_)
          · refine ds_px_below hab ?_ (dv_n 2 (by decide)) (dv_n 2 (by decide)) hR h
            intro c_r_886 r_886 v_r_886 h
            refine dp_eq hab v_x11 (dv_n 0 (by decide)) h (fun h => ?_) (fun h => ?_)
            · exact ds_l_lawOf_249 hab hk v_x4 (dv_n 8 (by decide)) v_r_886 hR h
            · refine dp_eq hab v_x11 (dv_n 1 (by decide)) h (fun h => ?_) (fun h => ?_)
              · exact ds_l_lawOf_249 hab hk v_x4 (dv_n 4 (by decide)) v_r_886 hR h
              · exact ds_l_lawOf_249 hab hk v_x4 (dv_n 2 (by decide)) v_r_886 hR h
          · refine ⟨100, ?_⟩
            exact ds_l_lawOf_396 hab hk v_x4 100 (dv_n 0 (by decide)) (dv_n 0 (by decide)) hR h
        · refine ⟨100, ?_⟩
          exact ds_l_lawOf_396 hab hk v_x4 100 (dv_n 0 (by decide)) (dv_n 0 (by decide)) hR h
    · refine dp_eq hab v_x11 (dv_n 0 (by decide)) h (fun h => ?_) (fun h => ?_)
      · exact ds_l_lawOf_158 hab hk (fun w0 w1 wh => ih w0 w1 wh) v_x4 v_x9 v_x11 v_x12 v_x12 hR h
      · refine dp_fs (dv_add (dv_hf v_x12) (dv_mul (dv_n 4 (by decide)) (dv_an1 v_x12))) h (fun c2 v2 h => ?_)
        exact ds_l_lawOf_158 hab hk (fun w0 w1 wh => ih w0 w1 wh) v_x4 v_x9 v_x11 v_x12 v2 hR h
noncomputable def dx_l_lawOf_82_b (k : Nat → Bool) (c_x4 c_x11 : Nat) (ih : Nat → Nat → Nat → Bool) (c_x9 c_x12 M : Nat) : Bool := dx_le 8 c_x12 (dx_l_lawOf_130 k c_x4 c_x11 M 100 c_x9 0) (dx_eq c_x9 0 (dx_fs (dx_add c_x12 1) (fun c_x12_1188 => ih 0 c_x12_1188 M)) (dx_fs (dx_mul c_x11 (dx_an c_x12 4)) (fun c1 => dx_px_edit (fun c_r_1189 M2 => dx_eq c_r_1189 c_x12 (dx_fs (dx_add c_x12 1) (fun c_x12_1259 => ih 1 c_x12_1259 M2)) (dx_fs (dx_add c_x12 1) (fun c_x12_1258 => ih 0 c_x12_1258 M2))) 2 c_x12 c1 M)))
noncomputable def dx_l_lawOf_82 (k : Nat → Bool) (c_x4 c_x11 : Nat) (n : Nat) : Nat → Nat → Nat → Bool := Nat.rec (motive := fun _ => Nat → Nat → Nat → Bool) (fun _ _ _ => false) (fun _ ih => dx_l_lawOf_82_b k c_x4 c_x11 ih) n
theorem ds_l_lawOf_82 {a b : Int32} (hab : dx_ab a b) {post : Int32 → St0 → Prop} {mc ms kc ks : Nat} {x4 x11 : Int32} {k : Nat → Bool} {c_x4 c_x11 : Nat} (hk : ∀ (c : Nat) (r : Int32), dx_v a b c r → k c = true → post r ()) (v_x4 : dx_v a b c_x4 x4) (v_x11 : dx_v a b c_x11 x11) : ∀ (n : Nat) {x9 x12 : Int32} {fm65_made : Int32} {am691 am692 am693 am694 am695 am696 am697 am698 am699 am6910 am6911 am6912 am6913 am6914 am6915 am6916 am6917 am6918 am6919 am6920 am6921 am6922 : Nat → Int32} {c_x9 c_x12 : Nat} {M : Nat}, dx_v a b c_x9 x9 → dx_v a b c_x12 x12 → dx_R a b M (fm65_made, am691, am692, am693, am694, am695, am696, am697, am698, am699, am6910, am6911, am6912, am6913, am6914, am6915, am6916, am6917, am6918, am6919, am6920, am6921, am6922) → dx_l_lawOf_82 k c_x4 c_x11 n c_x9 c_x12 M = true → wL_lawOf_82 post mc ms x4 x11 kc ks n x9 x12 fm65_made am691 am692 am693 am694 am695 am696 am697 am698 am699 am6910 am6911 am6912 am6913 am6914 am6915 am6916 am6917 am6918 am6919 am6920 am6921 am6922 := by
  intro n
  induction n with
  | zero =>
    intro x9 x12 fm65_made am691 am692 am693 am694 am695 am696 am697 am698 am699 am6910 am6911 am6912 am6913 am6914 am6915 am6916 am6917 am6918 am6919 am6920 am6921 am6922 c_x9 c_x12 M v_x9 v_x12 hR h
    exact absurd (show false = true from h) (by decide)
  | succ n ih =>
    intro x9 x12 fm65_made am691 am692 am693 am694 am695 am696 am697 am698 am699 am6910 am6911 am6912 am6913 am6914 am6915 am6916 am6917 am6918 am6919 am6920 am6921 am6922 c_x9 c_x12 M v_x9 v_x12 hR h
    replace h : dx_l_lawOf_82_b k c_x4 c_x11 (dx_l_lawOf_82 k c_x4 c_x11 n) c_x9 c_x12 M = true := h
    unfold dx_l_lawOf_82_b at h
    refine dp_le hab (dv_n 8 (by decide)) v_x12 h (fun h => ?_) (fun h => ?_)
    · refine ⟨100, ?_⟩
      exact ds_l_lawOf_130 hab hk v_x4 v_x11 hR 100 v_x9 (dv_n 0 (by decide)) h
    · refine dp_eq hab v_x9 (dv_n 0 (by decide)) h (fun h => ?_) (fun h => ?_)
      · intro x12_1188 e_x12_1188
        refine dp_fs (dv_of e_x12_1188 (dv_add v_x12 (dv_n 1 (by decide)))) h (fun c_x12_1188 v_x12_1188 h => ?_)
        exact ih (dv_n 0 (by decide)) v_x12_1188 hR h
      · refine dp_fs (dv_mul v_x11 (dv_an3 v_x12)) h (fun c1 v1 h => ?_)
        refine ds_px_edit hab ?_ (dv_n 2 (by decide)) v_x12 v1 hR h
        intro c_r_1189 r_1189 M2 u2 v_r_1189 R2 h
        obtain ⟨fm65_made_1190, am1061_1193, am1062_1196, am1063_1199, am1064_1202, am1065_1205, am1066_1208, am1067_1211, am1068_1214, am1069_1217, am10610_1220, am10611_1223, am10612_1226, am10613_1229, am10614_1232, am10615_1235, am10616_1238, am10617_1241, am10618_1244, am10619_1247, am10620_1250, am10621_1253, am10622_1256⟩ := u2
        refine dp_eq hab v_r_1189 v_x12 h (fun h => ?_) (fun h => ?_)
        · intro x12_1259 e_x12_1259
          refine dp_fs (dv_of e_x12_1259 (dv_add v_x12 (dv_n 1 (by decide)))) h (fun c_x12_1259 v_x12_1259 h => ?_)
          exact ih (dv_n 1 (by decide)) v_x12_1259 R2 h
        · intro x12_1258 e_x12_1258
          refine dp_fs (dv_of e_x12_1258 (dv_add v_x12 (dv_n 1 (by decide)))) h (fun c_x12_1258 v_x12_1258 h => ?_)
          exact ih (dv_n 0 (by decide)) v_x12_1258 R2 h
end
section
/-! The runs: the kernel evaluates the executors. -/
noncomputable def dx_M0 : Nat := Nat.shiftLeft 0x20002000200020002000200020002000 8976
theorem dx_run_i : dx_x_init_184 (fun M => Nat.beq M dx_M0) 100 0 0 = true := by decide +kernel
/-- chains with many = m + 1, its x coded x0 - m, its y coded as b -/
noncomputable def dx_rc (x0 m d : Nat) : Bool := dx_fs dx_M0 (fun M => dx_fs (Nat.sub x0 m) (fun x => dx_fs (Nat.succ m) (fun mm => dx_pl_chains (fun c _ => Nat.beq c 1) mm x 24640 d M)))
/-- the rest of the law, with its step -/
noncomputable def dx_rl (s : Nat) : Bool := dx_fs dx_M0 (fun M => dx_l_lawOf_82 (fun c => Nat.beq c 1) 8193 s 100 1 0 M)
theorem dx_run_l : ∀ s, s < 4 → dx_rl s = true := by decide +kernel
theorem dx_run_a : ∀ m, m < 8 → ∀ d, d < 8 → dx_rc 16448 m d = true := by decide +kernel
theorem dx_run_b : ∀ m, m < 8 → ∀ d, d < 8 → dx_rc 24640 m d = true := by decide +kernel
theorem dx_run_c : ∀ m, m < 8 → ∀ d, d < 8 → dx_rc 24641 m d = true := by decide +kernel
end
section
/-! The law: cells, the two halves, the statement. -/
theorem dx_R0 {a b : Int32} : dx_R a b 0 (0, fun _ => 0, fun _ => 0, fun _ => 0, fun _ => 0, fun _ => 0, fun _ => 0, fun _ => 0, fun _ => 0, fun _ => 0, fun _ => 0, fun _ => 0, fun _ => 0, fun _ => 0, fun _ => 0, fun _ => 0, fun _ => 0, fun _ => 0, fun _ => 0, fun _ => 0, fun _ => 0, fun _ => 0, fun _ => 0) := by
  have z : ∀ i, dx_v a b (dx_ce 0 i) 0 := by
    intro i
    rw [dx_ce_0]
    exact dv_n 0 (by decide)
  exact ⟨z 0, fun _ _ => z _, fun _ _ => z _, fun _ _ => z _, fun _ _ => z _, fun _ _ => z _, fun _ _ => z _, fun _ _ => z _, fun _ _ => z _, fun _ _ => z _, fun _ _ => z _, fun _ _ => z _, fun _ _ => z _, fun _ _ => z _, fun _ _ => z _, fun _ _ => z _, fun _ _ => z _, fun _ _ => z _, fun _ _ => z _, fun _ _ => z _, fun _ _ => z _, fun _ _ => z _, fun _ _ => z _⟩
theorem dx_init {a b : Int32} (hab : dx_ab a b) {post : St2 → Prop} {mc ms : Nat} (h1 : 22 ≤ mc) (h2 : 3503 ≤ ms) (H : ∀ u, dx_R a b dx_M0 u → post u) : wpX_init post mc ms 0 := by
  refine ⟨by omega, by omega, by omega, by omega, by omega, by omega, by omega, by omega, by omega, by omega, by omega, by omega, by omega, by omega, by omega, by omega, by omega, by omega, by omega, by omega, by omega, by omega, by omega, by omega, by omega, by omega, by omega, by omega, by omega, by omega, by omega, by omega, by omega, by omega, by omega, by omega, by omega, by omega, by omega, by omega, by omega, by omega, by omega, by omega, ⟨100, ?_⟩⟩
  refine ds_x_init_184 hab (k := fun M => Nat.beq M dx_M0) (fun M u hR h => ?_) 100 (dv_n 0 (by decide)) dx_R0 dx_run_i
  have e : M = dx_M0 := dx_eq_t h
  rw [e] at hR
  exact H u hR
theorem dx_cell {post : Int32 → Prop} {L : Nat} {xs : Nat → Int32} (hL : L ≤ 3) (p : Nat) (hp : p < 3) (H : ∀ x, post x) : wpL_cellAt post L xs () (nI p) := by
  refine ⟨fun _ => H _, fun h => ⟨?_, H _⟩⟩
  have t : ¬ nI L ≤ nI p := h
  rw [nI_leI (by omega) (by omega)] at t
  exact vp_in_nI (by omega) (by omega)
theorem dx_half {a b : Int32} (hab : dx_ab a b) {x y z : Int32} {m d s c : Nat} (hm : m < 8) (hs : s < 4) (em : x &&& 7 = nI m) (hd : d < 8) (ed : (x >>> ((3 : Int32) &&& 31)) &&& 7 = nI d) (es : z &&& 3 = nI s) (hc : dx_v a b c ((y &&& 255) - 100)) (hb : dx_v a b 24640 (((y >>> ((8 : Int32) &&& 31)) &&& 255) - 100))
    (run : dx_pl_chains (fun c _ => Nat.beq c 1) (Nat.succ m) c 24640 d dx_M0 = true) : wpL_lawOf (fun r _ => r = 1) 3182 50912 () x y z := by
  refine ⟨by decide, by decide, 22, 3503, by decide, by decide, dx_init hab (by decide) (by decide) (fun u hR => ?_)⟩
  obtain ⟨f, a1, a2, a3, a4, a5, a6, a7, a8, a9, a10, a11, a12, a13, a14, a15, a16, a17, a18, a19, a20, a21, a22⟩ := u
  intro x5 e5 x6 e6 x7 e7 x8 e8
  have v5 : dx_v a b (Nat.succ m) x5 := by
    refine dv_p (show m + 1 < 8192 by omega) ?_
    rw [e5, em, show (1 : Int32) = nI 1 from rfl, nI_add]
    exact congrArg nI (Nat.add_comm 1 m)
  have v6 : dx_v a b d x6 := dv_p (by omega) (by rw [e6, ed])
  have v7 : dx_v a b c x7 := dv_of e7 hc
  have v8 : dx_v a b 24640 x8 := dv_of e8 hb
  refine ds_pl_chains hab (k := fun c _ => Nat.beq c 1) (fun c r M u vr hR h => ?_) v5 v7 v8 v6 hR run
  obtain ⟨f2, b1, b2, b3, b4, b5, b6, b7, b8, b9, b10, b11, b12, b13, b14, b15, b16, b17, b18, b19, b20, b21, b22⟩ := u
  refine ⟨by decide, by decide, 22, 3503, by decide, by decide, dx_init hab (by decide) (by decide) (fun u hR => ?_)⟩
  obtain ⟨f3, c1, c2, c3, c4, c5, c6, c7, c8, c9, c10, c11, c12, c13, c14, c15, c16, c17, c18, c19, c20, c21, c22⟩ := u
  intro x11 e11
  have v11 : dx_v a b s x11 := dv_p (by omega) (by rw [e11, es])
  have ec : c = 1 := dx_eq_t h
  rw [ec] at vr
  have rl := dx_run_l s hs
  unfold dx_rl at rl
  rw [dx_fs_eq] at rl
  refine ⟨100, ds_l_lawOf_82 hab (k := fun c => Nat.beq c 1) (fun c r vr h => ?_) dv_m1000000001 v11 100 vr (dv_n 0 (by decide)) hR rl⟩
  have ec : c = 1 := dx_eq_t h
  rw [ec] at vr
  exact vr.1 (by decide)
theorem dx_cut {x0 m d : Nat} (h : dx_rc x0 m d = true) : dx_pl_chains (fun c _ => Nat.beq c 1) (Nat.succ m) (x0 - m) 24640 d dx_M0 = true := by
  unfold dx_rc at h
  rw [dx_fs_eq, dx_fs_eq, dx_fs_eq] at h
  exact h
theorem dx_law (x y z : Int32) : wpL_lawOf (fun r _ => r = 1) 3182 50912 () x y z := by
  obtain ⟨m, hm, em⟩ := pk_andE x (m := 7) 3 (by decide)
  obtain ⟨d, hd, ed⟩ := pk_andE (x >>> ((3 : Int32) &&& 31)) (m := 7) 3 (by decide)
  obtain ⟨s, hs, es⟩ := pk_andE z (m := 3) 2 (by decide)
  obtain ⟨B, hB, eB⟩ := pk_andE (y >>> ((8 : Int32) &&& 31)) (m := 255) 8 (by decide)
  have hm' : m < 8 := hm
  have hd' : d < 8 := hd
  have hs' : s < 4 := hs
  have hB' : B < 256 := hB
  have key : ∀ (q b : Int32), b = nI B - 100 → ((y >>> ((8 : Int32) &&& 31)) &&& 255) - 100 = b → (y &&& 255) - 100 = q → wpL_lawOf (fun r _ => r = 1) 3182 50912 () x y z := by
    intro q b eb eb' eq
    have g : nI m + nI (64 - m) = 64 := by
      rw [nI_add, show m + (64 - m) = 64 by omega]
      rfl
    have g65 : nI m + nI (65 - m) = 65 := by
      rw [nI_add, show m + (65 - m) = 65 by omega]
      rfl
    have n1 : ¬ b - 1 = b := by
      intro t
      have : (1 : Int32) = 0 := by grind
      exact absurd this (by decide)
    have n2 : ¬ b - 1 = b + 1 := by
      intro t
      have : (2 : Int32) = 0 := by grind
      exact absurd this (by decide)
    have hbb : ∀ a, dx_v a b 24640 (((y >>> ((8 : Int32) &&& 31)) &&& 255) - 100) := by
      intro a
      refine dv_b (by decide) (by decide) ?_
      rw [eb']
      show b = b + (nI 64 - 64)
      rw [show nI 64 = 64 from rfl]
      grind
    by_cases c1 : q + nI m = b
    · refine dx_half (a := b - 1) (b := b) ⟨⟨B, hB', eb⟩, n1, n2⟩ (c := 24640 - m) hm' hs' em hd' ed es ?_ (hbb _) (dx_cut (dx_run_b m hm' d hd'))
      rw [eq]
      refine dv_b (by omega) (by omega) ?_
      rw [show 24640 - m - 24576 = 64 - m by omega]
      grind
    · by_cases c2 : q + nI m = b + 1
      · refine dx_half (a := b - 1) (b := b) ⟨⟨B, hB', eb⟩, n1, n2⟩ (c := 24641 - m) hm' hs' em hd' ed es ?_ (hbb _) (dx_cut (dx_run_c m hm' d hd'))
        rw [eq]
        refine dv_b (by omega) (by omega) ?_
        rw [show 24641 - m - 24576 = 65 - m by omega]
        grind
      · refine dx_half (a := q + nI m) (b := b) ⟨⟨B, hB', eb⟩, c1, c2⟩ (c := 16448 - m) hm' hs' em hd' ed es ?_ (hbb _) (dx_cut (dx_run_a m hm' d hd'))
        rw [eq]
        refine dv_a (by omega) (by omega) ?_
        rw [show 16448 - m - 16384 = 64 - m by omega]
        grind
  exact key _ _ rfl (by rw [eB]) rfl
theorem i_vc (xs : Nat → Int32) (L : Nat) (hL : L ≤ 3) : wpL_law (fun r => r = 1) L xs :=
  dx_cell hL 0 (by decide) (fun x => dx_cell hL 1 (by decide) (fun y => dx_cell hL 2 (by decide) (fun z => ⟨3182, 50912, by decide, by decide, dx_law x y z⟩)))
end

section
/-! the picture: a list of operations is N and f : Nat → gc_Op; an operation is (kind, first part, second part, number, wide) -/
abbrev gc_Op : Type := Nat × Nat × Nat × Int32 × Bool
abbrev gc_k (o : gc_Op) : Nat := o.1
abbrev gc_a (o : gc_Op) : Nat := o.2.1
abbrev gc_b (o : gc_Op) : Nat := o.2.2.1
abbrev gc_n (o : gc_Op) : Int32 := o.2.2.2.1
abbrev gc_w (o : gc_Op) : Bool := o.2.2.2.2
/-- a boolean as the program keeps it -/
def gc_B (b : Bool) : Int32 := if b then 1 else 0
/-- has a first part; has a second part -/
def gc_u1 (k : Nat) : Bool := !(k == 0 || k == 1 || k == 11)
def gc_u2 (k : Nat) : Bool := k == 2 || k == 3 || k == 4 || k == 13
def gc_e1 (o : gc_Op) : Int32 := if gc_u1 (gc_k o) then nI (gc_a o) else -1
def gc_e2 (o : gc_Op) : Int32 := if gc_u2 (gc_k o) then nI (gc_b o) else -1
/-- kinds, widths and numbers fit -/
def gc_OKk (k : Nat) (wa wb w : Bool) (n : Int32) : Prop :=
  match k with
  | 0 => w = true ∧ ∃ j, j < 3 ∧ n = nI j
  | 1 => w = false
  | 2 => w = (wa || wb)
  | 3 => w = (wa || wb)
  | 4 => w = (wa || wb)
  | 5 => w = false ∧ wa = true
  | 6 => w = true ∧ wa = true ∧ ∃ j, 0 < j ∧ j < 4 ∧ n = nI j
  | 7 => w = false ∧ wa = true ∧ ∃ j, j < 4 ∧ n = nI j
  | 8 => w = true ∧ wa = false
  | 10 => w = true ∧ wa = true
  | 11 => w = true ∧ ∃ j, j < 3 ∧ n = nI j
  | 12 => w = true ∧ wa = false ∧ ∃ j, j < 4 ∧ n = nI j
  | 13 => wa = w ∧ wb = w
  | 14 => w = true ∧ wa = true
  | _ => False
def gc_OK (f : Nat → gc_Op) (N : Nat) (o : gc_Op) : Prop :=
  (gc_u1 (gc_k o) = true → gc_a o < N) ∧ (gc_u2 (gc_k o) = true → gc_b o < N) ∧ gc_OKk (gc_k o) (gc_w (f (gc_a o))) (gc_w (f (gc_b o))) (gc_w o) (gc_n o)
/-- the raw arrays hold the list -/
def gc_L (N : Nat) (f : Nat → gc_Op) (le : Int32) (a7 a8 a9 a10 a11 : Nat → Int32) : Prop :=
  le = nI N ∧ N ≤ 450 ∧ ∀ i, i < N → (a7 i = nI (gc_k (f i)) ∧ a8 i = gc_e1 (f i) ∧ a9 i = gc_e2 (f i) ∧ a10 i = gc_n (f i) ∧ a11 i = gc_B (gc_w (f i))) ∧ gc_OK f i (f i)
/-- a longer list -/
def gc_X (N : Nat) (f : Nat → gc_Op) (N' : Nat) (f' : Nat → gc_Op) : Prop := N ≤ N' ∧ ∀ i, i < N → f' i = f i
theorem gc_X_refl (N : Nat) (f : Nat → gc_Op) : gc_X N f N f := ⟨Nat.le_refl N, fun _ _ => rfl⟩
theorem gc_X_trans {N M P : Nat} {f g h : Nat → gc_Op} (p : gc_X N f M g) (q : gc_X M g P h) : gc_X N f P h :=
  ⟨Nat.le_trans p.1 q.1, fun i hi => (q.2 i (Nat.lt_of_lt_of_le hi p.1)).trans (p.2 i hi)⟩
/-- one more -/
def gc_put (N : Nat) (f : Nat → gc_Op) (o : gc_Op) : Nat → gc_Op := fun i => if i = N then o else f i
theorem gc_put_at (N : Nat) (f : Nat → gc_Op) (o : gc_Op) : gc_put N f o N = o := if_pos rfl
theorem gc_put_ne {N i : Nat} (f : Nat → gc_Op) (o : gc_Op) (h : i ≠ N) : gc_put N f o i = f i := if_neg h
theorem gc_X_put (N : Nat) (f : Nat → gc_Op) (o : gc_Op) : gc_X N f (N + 1) (gc_put N f o) :=
  ⟨Nat.le_succ N, fun _ hi => gc_put_ne f o (Nat.ne_of_lt hi)⟩

/-! hyperdual numbers: base, first direction, second direction, both -/
abbrev gc_H : Type := Int32 × Int32 × Int32 × Int32
def gc_z : gc_H := (0, 0, 0, 0)
def gc_add (x y : gc_H) : gc_H := (x.1 + y.1, x.2.1 + y.2.1, x.2.2.1 + y.2.2.1, x.2.2.2 + y.2.2.2)
def gc_sub (x y : gc_H) : gc_H := (x.1 - y.1, x.2.1 - y.2.1, x.2.2.1 - y.2.2.1, x.2.2.2 - y.2.2.2)
def gc_mul (x y : gc_H) : gc_H := (x.1 * y.1, x.2.1 * y.1 + x.1 * y.2.1, x.2.2.1 * y.1 + x.1 * y.2.2.1, x.2.2.2 * y.1 + x.2.1 * y.2.2.1 + x.2.2.1 * y.2.1 + x.1 * y.2.2.2)
theorem gc_Hx {x y : gc_H} (h1 : x.1 = y.1) (h2 : x.2.1 = y.2.1) (h3 : x.2.2.1 = y.2.2.1) (h4 : x.2.2.2 = y.2.2.2) : x = y := by
  obtain ⟨x1, x2, x3, x4⟩ := x
  obtain ⟨y1, y2, y3, y4⟩ := y
  simp only at h1 h2 h3 h4
  subst h1 h2 h3 h4
  rfl
theorem gc_add_z (x : gc_H) : gc_add x gc_z = x := gc_Hx (Int32.add_zero _) (Int32.add_zero _) (Int32.add_zero _) (Int32.add_zero _)
theorem gc_z_add (x : gc_H) : gc_add gc_z x = x := gc_Hx (Int32.zero_add _) (Int32.zero_add _) (Int32.zero_add _) (Int32.zero_add _)
theorem gc_sub_z (x : gc_H) : gc_sub x gc_z = x := gc_Hx (Int32.sub_zero _) (Int32.sub_zero _) (Int32.sub_zero _) (Int32.sub_zero _)
theorem gc_z_mul (x : gc_H) : gc_mul gc_z x = gc_z := by
  refine gc_Hx ?_ ?_ ?_ ?_ <;> simp only [gc_mul, gc_z] <;> grind
theorem gc_mul_z (x : gc_H) : gc_mul x gc_z = gc_z := by
  refine gc_Hx ?_ ?_ ?_ ?_ <;> simp only [gc_mul, gc_z] <;> grind
theorem gc_one_mul (x : gc_H) : gc_mul (1, 0, 0, 0) x = x := by
  refine gc_Hx ?_ ?_ ?_ ?_ <;> simp only [gc_mul] <;> grind
theorem gc_mul_one (x : gc_H) : gc_mul x (1, 0, 0, 0) = x := by
  refine gc_Hx ?_ ?_ ?_ ?_ <;> simp only [gc_mul] <;> grind
theorem gc_mul_comm (x y : gc_H) : gc_mul x y = gc_mul y x := by
  refine gc_Hx ?_ ?_ ?_ ?_ <;> simp only [gc_mul] <;> grind

/-! what an operation gives; env: inputs, directions, first and second direction of derivation (input, component) -/
abbrev gc_E : Type := (Nat → Nat → Int32) × (Nat → Nat → Int32) × (Nat → Nat → Int32) × (Nat → Nat → Int32)
abbrev gc_V : Type := Nat → gc_H
def gc_s4 (x : gc_V) : gc_H := gc_add (gc_add (gc_add (x 0) (x 1)) (x 2)) (x 3)
def gc_run (x : gc_V) : Nat → gc_H
  | 0 => x 0
  | c + 1 => gc_add (gc_run x c) (x (c + 1))
def gc_rub (x : gc_V) : Nat → gc_H
  | 0 => gc_add (gc_add (gc_add (x 3) (x 2)) (x 1)) (x 0)
  | 1 => gc_add (gc_add (x 3) (x 2)) (x 1)
  | 2 => gc_add (x 3) (x 2)
  | _ => x 3
def gc_sm (E : gc_E) (k : Nat) (n : Int32) (x y : gc_V) : gc_V :=
  match k with
  | 0 => fun c => (E.1 n.toNatClampNeg c, E.2.2.1 n.toNatClampNeg c, E.2.2.2 n.toNatClampNeg c, 0)
  | 1 => fun _ => (n, 0, 0, 0)
  | 2 => fun c => gc_add (x c) (y c)
  | 3 => fun c => gc_sub (x c) (y c)
  | 4 => fun c => gc_mul (x c) (y c)
  | 5 => fun _ => gc_s4 x
  | 6 => fun c => x ((c + n.toNatClampNeg) % 4)
  | 7 => fun _ => x n.toNatClampNeg
  | 8 => fun c => x c
  | 10 => fun c => gc_run x c
  | 11 => fun c => (E.2.1 n.toNatClampNeg c, 0, 0, 0)
  | 12 => fun c => if c = n.toNatClampNeg then x 0 else gc_z
  | 13 => fun c => if 0 < (x c).1 then y c else gc_z
  | 14 => fun c => gc_rub x c
  | _ => fun _ => gc_z
def gc_sem (E : gc_E) (o : gc_Op) (x y : gc_V) : gc_V := gc_sm E (gc_k o) (gc_n o) x y
def gc_vf (E : gc_E) (f : Nat → gc_Op) : Nat → Nat → gc_V
  | 0 => fun _ _ => gc_z
  | n + 1 => fun j => if j = n then gc_sem E (f n) (gc_vf E f n (gc_a (f n))) (gc_vf E f n (gc_b (f n))) else gc_vf E f n j
def gc_val (E : gc_E) (f : Nat → gc_Op) (i : Nat) : gc_V := gc_vf E f (i + 1) i
theorem gc_vf_lt (E : gc_E) (f : Nat → gc_Op) {n j : Nat} (h : j < n) : gc_vf E f n j = gc_val E f j := by
  induction n with
  | zero => exact absurd h (by omega)
  | succ n ih =>
    by_cases e : j = n
    · subst e
      rfl
    · show (if j = n then _ else _) = _
      rw [if_neg e]
      exact ih (by omega)
theorem gc_vf_ext (E : gc_E) {f g : Nat → gc_Op} : ∀ n, (∀ i, i < n → g i = f i) → gc_vf E g n = gc_vf E f n := by
  intro n
  induction n with
  | zero => exact fun _ => rfl
  | succ n ih =>
    intro h
    have e := ih (fun i hi => h i (by omega))
    have e2 := h n (by omega)
    funext j
    simp only [gc_vf, e, e2]
theorem gc_val_ext (E : gc_E) {N N' : Nat} {f g : Nat → gc_Op} (h : gc_X N f N' g) {i : Nat} (hi : i < N) : gc_val E g i = gc_val E f i := by
  unfold gc_val
  rw [gc_vf_ext E (f := f) (g := g) (i + 1) (fun j hj => h.2 j (by omega))]
theorem gc_sm_x (E : gc_E) {k : Nat} (n : Int32) (x x' y : gc_V) (h : ¬ gc_u1 k = true) : gc_sm E k n x y = gc_sm E k n x' y := by
  have e : k = 0 ∨ k = 1 ∨ k = 11 := by
    unfold gc_u1 at h
    simp only [Bool.not_eq_true', Bool.not_eq_false, Bool.or_eq_true, beq_iff_eq] at h
    omega
  rcases e with e | e | e <;> subst e <;> simp only [gc_sm]
theorem gc_sm_y (E : gc_E) {k : Nat} (n : Int32) (x y y' : gc_V) (h : ¬ gc_u2 k = true) : gc_sm E k n x y = gc_sm E k n x y' := by
  unfold gc_sm
  split <;> first | rfl | exact absurd rfl h
theorem gc_sm_cong (E : gc_E) (k : Nat) (n : Int32) {x x' y y' : gc_V} (h1 : gc_u1 k = true → x = x') (h2 : gc_u2 k = true → y = y') : gc_sm E k n x y = gc_sm E k n x' y' := by
  by_cases u : gc_u1 k = true
  · rw [h1 u]
    by_cases v : gc_u2 k = true
    · rw [h2 v]
    · exact gc_sm_y E n x' y y' v
  · rw [gc_sm_x E n x x' y u]
    by_cases v : gc_u2 k = true
    · rw [h2 v]
    · exact gc_sm_y E n x' y y' v
theorem gc_val_eq (E : gc_E) {f : Nat → gc_Op} {i : Nat} (h : gc_OK f i (f i)) : gc_val E f i = gc_sem E (f i) (gc_val E f (gc_a (f i))) (gc_val E f (gc_b (f i))) := by
  have e : gc_val E f i = gc_sem E (f i) (gc_vf E f i (gc_a (f i))) (gc_vf E f i (gc_b (f i))) := if_pos rfl
  rw [e]
  exact gc_sm_cong E _ _ (fun u => gc_vf_lt E f (h.1 u)) (fun u => gc_vf_lt E f (h.2.1 u))
theorem gc_OKk_cong {k : Nat} {wa wb wa' wb' w : Bool} {n : Int32} (h : gc_OKk k wa wb w n) (A : gc_u1 k = true → wa' = wa) (B : gc_u2 k = true → wb' = wb) : gc_OKk k wa' wb' w n := by
  by_cases u : gc_u1 k = true
  · rw [A u]
    by_cases v : gc_u2 k = true
    · rw [B v]
      exact h
    · revert h
      unfold gc_OKk
      split <;> first | exact id | exact absurd rfl v
  · have e : k = 0 ∨ k = 1 ∨ k = 11 := by
      unfold gc_u1 at u
      simp only [Bool.not_eq_true', Bool.not_eq_false, Bool.or_eq_true, beq_iff_eq] at u
      omega
    rcases e with e | e | e <;> subst e <;> exact h
theorem gc_OK_ext {N N' M : Nat} {f g : Nat → gc_Op} (h : gc_X N f N' g) {o : gc_Op} (hM : M ≤ N) (ok : gc_OK f M o) : gc_OK g M o :=
  ⟨ok.1, ok.2.1, gc_OKk_cong ok.2.2 (fun u => by rw [h.2 _ (Nat.lt_of_lt_of_le (ok.1 u) hM)]) (fun u => by rw [h.2 _ (Nat.lt_of_lt_of_le (ok.2.1 u) hM)])⟩
theorem gc_OK_up {N M : Nat} {f : Nat → gc_Op} {o : gc_Op} (hM : M ≤ N) (ok : gc_OK f M o) : gc_OK f N o :=
  ⟨fun u => Nat.lt_of_lt_of_le (ok.1 u) hM, fun u => Nat.lt_of_lt_of_le (ok.2.1 u) hM, ok.2.2⟩
/-- a number's value is the same in every component -/
theorem gc_flat (E : gc_E) {f : Nat → gc_Op} {N : Nat} (h : ∀ i, i < N → gc_OK f i (f i)) : ∀ i, i < N → gc_w (f i) = false → ∀ c d, gc_val E f i c = gc_val E f i d := by
  intro i
  induction i using Nat.strongRecOn with
  | _ i ih =>
    intro hi hw c d
    have ok := h i hi
    rw [gc_val_eq E ok]
    revert ok hw
    generalize f i = o
    obtain ⟨k, a, b, n, w⟩ := o
    intro hw ok
    have hw' : w = false := hw
    obtain ⟨o1, o2, o3⟩ := ok
    dsimp only [gc_k, gc_a, gc_b, gc_n, gc_w] at o1 o2 o3
    subst hw'
    have ia : gc_u1 k = true → gc_w (f a) = false → gc_val E f a c = gc_val E f a d := fun u w => ih a (o1 u) (Nat.lt_trans (o1 u) hi) w c d
    have ib : gc_u2 k = true → gc_w (f b) = false → gc_val E f b c = gc_val E f b d := fun u w => ih b (o2 u) (Nat.lt_trans (o2 u) hi) w c d
    show gc_sm E k n (gc_val E f a) (gc_val E f b) c = gc_sm E k n (gc_val E f a) (gc_val E f b) d
    match k with
    | 0 => exact absurd o3.1 Bool.false_ne_true
    | 1 => rfl
    | 2 =>
      have t : false = (gc_w (f a) || gc_w (f b)) := o3
      have t' := Bool.or_eq_false_iff.mp t.symm
      show gc_add _ _ = gc_add _ _
      rw [ia rfl t'.1, ib rfl t'.2]
    | 3 =>
      have t : false = (gc_w (f a) || gc_w (f b)) := o3
      have t' := Bool.or_eq_false_iff.mp t.symm
      show gc_sub _ _ = gc_sub _ _
      rw [ia rfl t'.1, ib rfl t'.2]
    | 4 =>
      have t : false = (gc_w (f a) || gc_w (f b)) := o3
      have t' := Bool.or_eq_false_iff.mp t.symm
      show gc_mul _ _ = gc_mul _ _
      rw [ia rfl t'.1, ib rfl t'.2]
    | 5 => rfl
    | 6 => exact absurd o3.1 Bool.false_ne_true
    | 7 => rfl
    | 8 => exact absurd o3.1 Bool.false_ne_true
    | 9 => exact absurd o3 id
    | 10 => exact absurd o3.1 Bool.false_ne_true
    | 11 => exact absurd o3.1 Bool.false_ne_true
    | 12 => exact absurd o3.1 Bool.false_ne_true
    | 13 =>
      show (if _ then _ else _) = (if _ then _ else _)
      rw [ia rfl o3.1, ib rfl o3.2]
    | 14 => exact absurd o3.1 Bool.false_ne_true
    | k + 15 => exact absurd o3 id

/-! weights by kind, added up over a list -/
def gc_S (t : Nat → Nat) (f : Nat → gc_Op) : Nat → Nat
  | 0 => 0
  | n + 1 => gc_S t f n + t (gc_k (f n))
theorem gc_S_ext (t : Nat → Nat) {f g : Nat → gc_Op} : ∀ n, (∀ i, i < n → g i = f i) → gc_S t g n = gc_S t f n := by
  intro n
  induction n with
  | zero => exact fun _ => rfl
  | succ n ih =>
    intro h
    show gc_S t g n + _ = gc_S t f n + _
    rw [ih (fun i hi => h i (by omega)), h n (by omega)]
theorem gc_S_one (f : Nat → gc_Op) (n : Nat) : gc_S (fun _ => 1) f n = n := by
  induction n with
  | zero => rfl
  | succ n ih => show gc_S _ f n + 1 = n + 1; rw [ih]
theorem gc_S_put (t : Nat → Nat) (f : Nat → gc_Op) (N : Nat) (o : gc_Op) : gc_S t (gc_put N f o) (N + 1) = gc_S t f N + t (gc_k o) := by
  show gc_S t (gc_put N f o) N + t (gc_k (gc_put N f o N)) = _
  rw [gc_put_at, gc_S_ext t (f := f) N (fun i hi => gc_put_ne f o (by omega))]
theorem gc_S_mono (t : Nat → Nat) (f : Nat → gc_Op) {m n : Nat} (h : m ≤ n) : gc_S t f m ≤ gc_S t f n := by
  induction n with
  | zero => rw [Nat.le_zero.mp h]; exact Nat.le_refl _
  | succ n ih =>
    by_cases e : m = n + 1
    · rw [e]; exact Nat.le_refl _
    · exact Nat.le_trans (ih (by omega)) (Nat.le_add_right _ _)
end
section
section
variable {nc lv le fc : Int32} {a1 a2 a3 a4 a5 a6 a7 a8 a9 a10 a11 a12 a13 a14 a15 a16 a17 : Nat → Int32}
variable {N : Nat} {f : Nat → gc_Op}
theorem gc_sh : ∀ j, j < 451 → (nI j).toInt16.toInt32 = nI j := by decide +kernel
theorem gc_by : ∀ j, j < 15 → (nI j).toInt8.toInt32 = nI j := by decide +kernel
theorem gc_k15 {k : Nat} {wa wb w : Bool} {n : Int32} (h : gc_OKk k wa wb w n) : k < 15 := by
  match k with
  | 0 | 1 | 2 | 3 | 4 | 5 | 6 | 7 | 8 | 9 | 10 | 11 | 12 | 13 | 14 => decide
  | k + 15 => exact absurd h id
theorem gc_sh1 {N : Nat} {o : gc_Op} (h : gc_u1 (gc_k o) = true → gc_a o < N) (hN : N ≤ 450) : (gc_e1 o).toInt16.toInt32 = gc_e1 o := by
  unfold gc_e1
  by_cases u : gc_u1 (gc_k o) = true
  · rw [if_pos u]
    exact gc_sh _ (by have := h u; omega)
  · rw [if_neg u]
    decide
theorem gc_sh2 {N : Nat} {o : gc_Op} (h : gc_u2 (gc_k o) = true → gc_b o < N) (hN : N ≤ 450) : (gc_e2 o).toInt16.toInt32 = gc_e2 o := by
  unfold gc_e2
  by_cases u : gc_u2 (gc_k o) = true
  · rw [if_pos u]
    exact gc_sh _ (by have := h u; omega)
  · rw [if_neg u]
    decide
theorem gc_vB (w : Bool) : vp_nar .boolean (gc_B w) = gc_B w := by
  cases w <;> rfl
theorem gc_B0 {w : Bool} : gc_B w = 0 ↔ w = false := by
  cases w <;> decide
theorem gc_Binj {w v : Bool} : gc_B w = gc_B v ↔ w = v := by
  cases w <;> cases v <;> decide
/-- the list with one operation more is held by the arrays with one place written -/
theorem gc_L_put (hL : gc_L N f le a7 a8 a9 a10 a11) (hN : N < 450) {o : gc_Op} (ok : gc_OK f N o) :
    gc_L (N + 1) (gc_put N f o) (le + 1) (upd a7 N (nI (gc_k o))) (upd a8 N (gc_e1 o)) (upd a9 N (gc_e2 o)) (upd a10 N (gc_n o)) (upd a11 N (gc_B (gc_w o))) := by
  refine ⟨by rw [hL.1]; exact nI_1 N, hN, fun i hi => ?_⟩
  by_cases e : i = N
  · subst e
    rw [pk_us, pk_us, pk_us, pk_us, pk_us, gc_put_at]
    exact ⟨⟨rfl, rfl, rfl, rfl, rfl⟩, gc_OK_ext (gc_X_put i f o) (Nat.le_refl _) ok⟩
  · rw [pk_un e, pk_un e, pk_un e, pk_un e, pk_un e, gc_put_ne f o e]
    have h := hL.2.2 i (by omega)
    exact ⟨h.1, gc_OK_ext (gc_X_put N f o) (by omega) h.2⟩
theorem gc_append {post : Int32 → St1 → Prop} (hL : gc_L N f le a7 a8 a9 a10 a11) (hN : N < 450) {o : gc_Op} (ok : gc_OK f N o)
    (hp : ∀ (le' : Int32) (b7 b8 b9 b10 b11 : Nat → Int32), gc_L (N + 1) (gc_put N f o) le' b7 b8 b9 b10 b11 → post (nI N) (nc, lv, le', fc, a1, a2, a3, a4, a5, a6, b7, b8, b9, b10, b11, a12, a13, a14, a15, a16, a17))
    {p0 p1 p2 p3 p4 : Int32} (e0 : p0 = nI (gc_k o)) (e1 : p1 = gc_e1 o) (e2 : p2 = gc_e2 o) (e3 : p3 = gc_n o) (e4 : p4 = gc_B (gc_w o)) :
    wpX_append post (nc, lv, le, fc, a1, a2, a3, a4, a5, a6, a7, a8, a9, a10, a11, a12, a13, a14, a15, a16, a17) p0 p1 p2 p3 p4 := by
  have hle := hL.1
  have H := gc_L_put hL hN ok
  have hc : le.toNatClampNeg = N := by rw [hle]; exact nI_clamp (by omega)
  have hin : vp_in le 450 := by rw [hle]; exact vp_in_nI hN (by omega)
  have s0 : (nI (gc_k o)).toInt8.toInt32 = nI (gc_k o) := gc_by _ (gc_k15 ok.2.2)
  have s1 := gc_sh1 ok.1 (Nat.le_of_lt hN)
  have s2 := gc_sh2 ok.2.1 (Nat.le_of_lt hN)
  have s4 := gc_vB (gc_w o)
  unfold wpX_append
  dsimp only
  rw [hc, e0, e1, e2, e3, e4, s0, s1, s2, s4]
  refine ⟨hin, nm_e ⟨hin, nm_e ⟨hin, nm_e ⟨hin, nm_e ⟨hin, nm_e (nm_e ?_)⟩⟩⟩⟩⟩
  have := hp _ _ _ _ _ _ H
  rw [← hle] at this
  exact this
theorem gc_append_2 {post : Int32 → St1 → Prop} (hL : gc_L N f le a7 a8 a9 a10 a11) (hN : N < 450) {o : gc_Op} (ok : gc_OK f N o)
    (hp : ∀ (le' : Int32) (b7 b8 b9 b10 b11 : Nat → Int32), gc_L (N + 1) (gc_put N f o) le' b7 b8 b9 b10 b11 → post (nI N) (nc, lv, le', fc, a1, a2, a3, a4, a5, a6, b7, b8, b9, b10, b11, a12, a13, a14, a15, a16, a17))
    {p0 p1 p2 p3 p4 : Int32} (e0 : p0 = nI (gc_k o)) (e1 : p1 = gc_e1 o) (e2 : p2 = gc_e2 o) (e3 : p3 = gc_n o) (e4 : p4 = gc_B (gc_w o)) :
    wpX_append_2 post (nc, lv, le, fc, a1, a2, a3, a4, a5, a6, a7, a8, a9, a10, a11, a12, a13, a14, a15, a16, a17) p0 p1 p2 p3 p4 := by
  have hle := hL.1
  have H := gc_L_put hL hN ok
  have hc : le.toNatClampNeg = N := by rw [hle]; exact nI_clamp (by omega)
  have hin : vp_in le 450 := by rw [hle]; exact vp_in_nI hN (by omega)
  have s0 : (nI (gc_k o)).toInt8.toInt32 = nI (gc_k o) := gc_by _ (gc_k15 ok.2.2)
  have s1 := gc_sh1 ok.1 (Nat.le_of_lt hN)
  have s2 := gc_sh2 ok.2.1 (Nat.le_of_lt hN)
  have s4 := gc_vB (gc_w o)
  unfold wpX_append_2
  dsimp only
  rw [hc, e0, e1, e2, e3, e4, s0, s1, s2, s4]
  refine ⟨hin, nm_e ⟨hin, nm_e ⟨hin, nm_e ⟨hin, nm_e ⟨hin, nm_e (nm_e ?_)⟩⟩⟩⟩⟩
  have := hp _ _ _ _ _ _ H
  rw [← hle] at this
  exact this
/-- what a making method promises: the list is longer, r is in it, its width and its value in every env, and the weights -/
def gc_MK (N : Nat) (f : Nat → gc_Op) (N' : Nat) (f' : Nat → gc_Op) (r : Nat) (w : Bool) (v : gc_E → gc_V) (c : (Nat → Nat) → Nat) : Prop :=
  gc_X N f N' f' ∧ r < N' ∧ gc_w (f' r) = w ∧ (∀ E, gc_val E f' r = v E) ∧ ∀ t, gc_S t f' N' ≤ gc_S t f N + c t
theorem gc_MK_here {r : Nat} {w : Bool} {v : gc_E → gc_V} {c : (Nat → Nat) → Nat} (hr : r < N) (hw : gc_w (f r) = w) (hv : ∀ E, gc_val E f r = v E) : gc_MK N f N f r w v c :=
  ⟨gc_X_refl N f, hr, hw, hv, fun _ => Nat.le_add_right _ _⟩
theorem gc_MK_put {o : gc_Op} (ok : gc_OK f N o) : gc_MK N f (N + 1) (gc_put N f o) N (gc_w o) (fun E => gc_sem E o (gc_val E f (gc_a o)) (gc_val E f (gc_b o))) (fun t => t (gc_k o)) := by
  refine ⟨gc_X_put N f o, Nat.lt_succ_self N, by rw [gc_put_at], fun E => ?_, fun t => by rw [gc_S_put]; exact Nat.le_refl _⟩
  have ok' : gc_OK (gc_put N f o) N (gc_put N f o N) := by rw [gc_put_at]; exact gc_OK_ext (gc_X_put N f o) (Nat.le_refl _) ok
  rw [gc_val_eq E ok', gc_put_at]
  exact gc_sm_cong E _ _ (fun u => gc_val_ext E (gc_X_put N f o) (ok.1 u)) (fun u => gc_val_ext E (gc_X_put N f o) (ok.2.1 u))
theorem gc_MK_mono {N' : Nat} {f' : Nat → gc_Op} {r : Nat} {w w' : Bool} {v v' : gc_E → gc_V} {c c' : (Nat → Nat) → Nat} (h : gc_MK N f N' f' r w v c) (hw : w = w') (hv : ∀ E, v E = v' E) (hc : ∀ t, c t ≤ c' t) : gc_MK N f N' f' r w' v' c' :=
  ⟨h.1, h.2.1, h.2.2.1.trans hw, fun E => (h.2.2.2.1 E).trans (hv E), fun t => Nat.le_trans (h.2.2.2.2 t) (Nat.add_le_add_left (hc t) _)⟩
theorem gc_wsame {k : Nat} {wa wb w wa' wb' w' : Bool} {n n' : Int32} (h : gc_OKk k wa wb w n) (h' : gc_OKk k wa' wb' w' n') (ha : gc_u1 k = true → wa = wa') (hb : gc_u2 k = true → wb = wb') : w = w' := by
  match k with
  | 0 => exact h.1.trans h'.1.symm
  | 1 => exact Eq.trans (b := false) h (Eq.symm h')
  | 2 => have e : w = (wa || wb) := h; have e' : w' = (wa' || wb') := h'; rw [e, e', ha rfl, hb rfl]
  | 3 => have e : w = (wa || wb) := h; have e' : w' = (wa' || wb') := h'; rw [e, e', ha rfl, hb rfl]
  | 4 => have e : w = (wa || wb) := h; have e' : w' = (wa' || wb') := h'; rw [e, e', ha rfl, hb rfl]
  | 5 => exact h.1.trans h'.1.symm
  | 6 => exact h.1.trans h'.1.symm
  | 7 => exact h.1.trans h'.1.symm
  | 8 => exact h.1.trans h'.1.symm
  | 9 => exact absurd h id
  | 10 => exact h.1.trans h'.1.symm
  | 11 => exact h.1.trans h'.1.symm
  | 12 => exact h.1.trans h'.1.symm
  | 13 => exact h.1.symm.trans ((ha rfl).trans h'.1)
  | 14 => exact h.1.trans h'.1.symm
  | k + 15 => exact absurd h id
/-- the same raw fields: the same width and value -/
theorem gc_found {i : Nat} (hL : gc_L N f le a7 a8 a9 a10 a11) (hi : i < N) {o : gc_Op} (ok : gc_OK f N o) (h0 : a7 i = nI (gc_k o)) (h1 : a8 i = gc_e1 o) (h2 : a9 i = gc_e2 o) (h3 : a10 i = gc_n o) {c : (Nat → Nat) → Nat} :
    gc_MK N f N f i (gc_w o) (fun E => gc_sem E o (gc_val E f (gc_a o)) (gc_val E f (gc_b o))) c := by
  obtain ⟨⟨r0, r1, r2, r3, r4⟩, ok'⟩ := hL.2.2 i hi
  have hN := hL.2.1
  rw [r0] at h0
  rw [r1] at h1
  rw [r2] at h2
  rw [r3] at h3
  have hk : gc_k (f i) = gc_k o := (nI_eq (by have := gc_k15 ok'.2.2; omega) (by have := gc_k15 ok.2.2; omega)).mp h0
  have ha : gc_u1 (gc_k o) = true → gc_a (f i) = gc_a o := by
    intro u
    have u' : gc_u1 (gc_k (f i)) = true := by rw [hk]; exact u
    unfold gc_e1 at h1
    rw [if_pos u, if_pos u'] at h1
    exact (nI_eq (by have := ok'.1 u'; omega) (by have := ok.1 u; omega)).mp h1
  have hb : gc_u2 (gc_k o) = true → gc_b (f i) = gc_b o := by
    intro u
    have u' : gc_u2 (gc_k (f i)) = true := by rw [hk]; exact u
    unfold gc_e2 at h2
    rw [if_pos u, if_pos u'] at h2
    exact (nI_eq (by have := ok'.2.1 u'; omega) (by have := ok.2.1 u; omega)).mp h2
  refine gc_MK_here hi ?_ (fun E => ?_)
  · have k1 := ok'.2.2
    rw [hk] at k1
    exact gc_wsame k1 ok.2.2 (fun u => by rw [ha u]) (fun u => by rw [hb u])
  · rw [gc_val_eq E ok']
    unfold gc_sem
    rw [hk, h3]
    exact gc_sm_cong E _ _ (fun u => by rw [ha u]) (fun u => by rw [hb u])
theorem gc_share {post : Int32 → St1 → Prop} (hL : gc_L N f le a7 a8 a9 a10 a11) (hN : N < 450) (o : gc_Op) (ok : gc_OK f N o)
    (hp : ∀ (r : Nat) (N' : Nat) (f' : Nat → gc_Op) (le' : Int32) (b7 b8 b9 b10 b11 : Nat → Int32), gc_L N' f' le' b7 b8 b9 b10 b11 → gc_MK N f N' f' r (gc_w o) (fun E => gc_sem E o (gc_val E f (gc_a o)) (gc_val E f (gc_b o))) (fun t => t (gc_k o)) → post (nI r) (nc, lv, le', fc, a1, a2, a3, a4, a5, a6, b7, b8, b9, b10, b11, a12, a13, a14, a15, a16, a17))
    {p0 p1 p2 p3 p4 : Int32} (e0 : p0 = nI (gc_k o)) (e1 : p1 = gc_e1 o) (e2 : p2 = gc_e2 o) (e3 : p3 = gc_n o) (e4 : p4 = gc_B (gc_w o)) :
    wpX_share post (nc, lv, le, fc, a1, a2, a3, a4, a5, a6, a7, a8, a9, a10, a11, a12, a13, a14, a15, a16, a17) p0 p1 p2 p3 p4 := by
  have hA : wX_share_74 post p0 p1 p2 p3 p4 nc lv le fc a1 a2 a3 a4 a5 a6 a7 a8 a9 a10 a11 a12 a13 a14 a15 a16 a17 := gc_append hL hN ok (fun le' b7 b8 b9 b10 b11 h => hp N _ _ le' b7 b8 b9 b10 b11 h (gc_MK_put ok)) e0 e1 e2 e3 e4
  unfold wpX_share
  refine br_c (fun _ => ?_) (fun _ => hA)
  refine pk_loop (σ := Unit) (fun n i _ => wX_share_11 post p0 p1 p2 p3 p4 nc lv le fc a1 a2 a3 a4 a5 a6 a7 a8 a9 a10 a11 a12 a13 a14 a15 a16 a17 n (nI i)) (fun _ _ => True) N 0 () (by omega) trivial ?_ ?_
  · intro n _ _
    exact pk_le N N (fun _ => hA) (fun z => absurd z (by omega)) hL.1
  · intro n i _ hi _ hw
    have hc : (nI i).toNatClampNeg = i := nI_clamp (by omega)
    have hin : vp_in (nI i) 450 := vp_in_nI (by omega) (by omega)
    have nx : ∀ x, x = nI i + 1 → wX_share_11 post p0 p1 p2 p3 p4 nc lv le fc a1 a2 a3 a4 a5 a6 a7 a8 a9 a10 a11 a12 a13 a14 a15 a16 a17 n x := nm_r (nI_1 i) (hw () trivial)
    refine pk_le N i (fun z => absurd z (by omega)) (fun _ => ⟨hin, ?_⟩) hL.1
    rw [hc]
    refine br_c (fun h0 => ⟨hin, br_c (fun h1 => ⟨hin, br_c (fun h2 => ⟨hin, br_c (fun h3 => ?_) (fun _ => nx)⟩) (fun _ => nx)⟩) (fun _ => nx)⟩) (fun _ => nx)
    exact hp i N f le a7 a8 a9 a10 a11 hL (gc_found hL hi ok (h0.trans e0) (h1.trans e1) (h2.trans e2) (h3.trans e3))
theorem gc_share_2 {post : Int32 → St1 → Prop} (hL : gc_L N f le a7 a8 a9 a10 a11) (hN : N < 450) (o : gc_Op) (ok : gc_OK f N o)
    (hp : ∀ (r : Nat) (N' : Nat) (f' : Nat → gc_Op) (le' : Int32) (b7 b8 b9 b10 b11 : Nat → Int32), gc_L N' f' le' b7 b8 b9 b10 b11 → gc_MK N f N' f' r (gc_w o) (fun E => gc_sem E o (gc_val E f (gc_a o)) (gc_val E f (gc_b o))) (fun t => t (gc_k o)) → post (nI r) (nc, lv, le', fc, a1, a2, a3, a4, a5, a6, b7, b8, b9, b10, b11, a12, a13, a14, a15, a16, a17))
    {p0 p1 p2 p3 p4 : Int32} (e0 : p0 = nI (gc_k o)) (e1 : p1 = gc_e1 o) (e2 : p2 = gc_e2 o) (e3 : p3 = gc_n o) (e4 : p4 = gc_B (gc_w o)) :
    wpX_share_2 post (nc, lv, le, fc, a1, a2, a3, a4, a5, a6, a7, a8, a9, a10, a11, a12, a13, a14, a15, a16, a17) p0 p1 p2 p3 p4 := by
  have hA : wX_share_2_74 post p0 p1 p2 p3 p4 nc lv le fc a1 a2 a3 a4 a5 a6 a7 a8 a9 a10 a11 a12 a13 a14 a15 a16 a17 := gc_append_2 hL hN ok (fun le' b7 b8 b9 b10 b11 h => hp N _ _ le' b7 b8 b9 b10 b11 h (gc_MK_put ok)) e0 e1 e2 e3 e4
  unfold wpX_share_2
  refine br_c (fun _ => ?_) (fun _ => hA)
  refine pk_loop (σ := Unit) (fun n i _ => wX_share_2_11 post p0 p1 p2 p3 p4 nc lv le fc a1 a2 a3 a4 a5 a6 a7 a8 a9 a10 a11 a12 a13 a14 a15 a16 a17 n (nI i)) (fun _ _ => True) N 0 () (by omega) trivial ?_ ?_
  · intro n _ _
    exact pk_le N N (fun _ => hA) (fun z => absurd z (by omega)) hL.1
  · intro n i _ hi _ hw
    have hc : (nI i).toNatClampNeg = i := nI_clamp (by omega)
    have hin : vp_in (nI i) 450 := vp_in_nI (by omega) (by omega)
    have nx : ∀ x, x = nI i + 1 → wX_share_2_11 post p0 p1 p2 p3 p4 nc lv le fc a1 a2 a3 a4 a5 a6 a7 a8 a9 a10 a11 a12 a13 a14 a15 a16 a17 n x := nm_r (nI_1 i) (hw () trivial)
    refine pk_le N i (fun z => absurd z (by omega)) (fun _ => ⟨hin, ?_⟩) hL.1
    rw [hc]
    refine br_c (fun h0 => ⟨hin, br_c (fun h1 => ⟨hin, br_c (fun h2 => ⟨hin, br_c (fun h3 => ?_) (fun _ => nx)⟩) (fun _ => nx)⟩) (fun _ => nx)⟩) (fun _ => nx)
    exact hp i N f le a7 a8 a9 a10 a11 hL (gc_found hL hi ok (h0.trans e0) (h1.trans e1) (h2.trans e2) (h3.trans e3))
end
end
section
section
variable {nc lv le fc : Int32} {a1 a2 a3 a4 a5 a6 a7 a8 a9 a10 a11 a12 a13 a14 a15 a16 a17 : Nat → Int32}
variable {N : Nat} {f : Nat → gc_Op}
theorem gc_isKnown {post : Int32 → Prop} (hL : gc_L N f le a7 a8 a9 a10 a11) {j : Nat} (hj : j < N) (h1 : gc_k (f j) = 1 → post 1) (h0 : ¬ gc_k (f j) = 1 → post 0) : wpX_isKnown post (nc, lv, le, fc, a1, a2, a3, a4, a5, a6, a7, a8, a9, a10, a11, a12, a13, a14, a15, a16, a17) (nI j) := by
  have hN := hL.2.1
  have hc : (nI j).toNatClampNeg = j := nI_clamp (by omega)
  obtain ⟨⟨r0, _⟩, ok⟩ := hL.2.2 j hj
  have k15 := gc_k15 ok.2.2
  unfold wpX_isKnown
  dsimp only
  rw [hc, r0]
  exact ⟨vp_in_nI (by omega) (by omega), pk_eq (gc_k (f j)) 1 h1 h0⟩
/-- the program knows that it is 0 -/
def gc_isZ (f : Nat → gc_Op) (j : Nat) : Prop := (gc_k (f j) = 1 ∧ gc_n (f j) = 0) ∨ (gc_k (f j) = 8 ∧ gc_k (f (gc_a (f j))) = 1 ∧ gc_n (f (gc_a (f j))) = 0)
theorem gc_isZero {post : Int32 → Prop} (hL : gc_L N f le a7 a8 a9 a10 a11) {j : Nat} (hj : j < N) (h1 : gc_isZ f j → post 1) (h0 : ¬ gc_isZ f j → post 0) : wpX_isZero post (nc, lv, le, fc, a1, a2, a3, a4, a5, a6, a7, a8, a9, a10, a11, a12, a13, a14, a15, a16, a17) (nI j) := by
  have hN := hL.2.1
  have hc : (nI j).toNatClampNeg = j := nI_clamp (by omega)
  have hin : vp_in (nI j) 450 := vp_in_nI (by omega) (by omega)
  obtain ⟨⟨r0, r1, _, r3, _⟩, ok⟩ := hL.2.2 j hj
  have k15 := gc_k15 ok.2.2
  unfold wpX_isZero
  dsimp only
  rw [hc, r0, r3]
  refine ⟨hin, pk_eq (gc_k (f j)) 1 (fun e => ⟨hin, br_c (fun z => h1 (Or.inl ⟨e, z⟩)) (fun z => h0 (fun y => ?_))⟩) (fun e => ⟨hin, pk_eq (gc_k (f j)) 8 (fun e8 => ⟨hin, ?_⟩) (fun e8 => h0 (fun y => ?_))⟩)⟩
  · rcases y with y | y
    · exact z y.2
    · exact absurd y.1 (by omega)
  · have u : gc_u1 (gc_k (f j)) = true := by rw [e8]; rfl
    have ha := ok.1 u
    have ea : a8 j = nI (gc_a (f j)) := by rw [r1]; unfold gc_e1; rw [if_pos u]
    have hca : (nI (gc_a (f j))).toNatClampNeg = gc_a (f j) := nI_clamp (by omega)
    have hina : vp_in (nI (gc_a (f j))) 450 := vp_in_nI (by omega) (by omega)
    obtain ⟨⟨q0, _, _, q3, _⟩, qk⟩ := hL.2.2 (gc_a (f j)) (by omega)
    have q15 := gc_k15 qk.2.2
    rw [ea, hca, q0, q3]
    refine ⟨hina, pk_eq (gc_k (f (gc_a (f j)))) 1 (fun e1 => ⟨hin, hina, br_c (fun z => h1 (Or.inr ⟨e8, e1, z⟩)) (fun z => h0 (fun y => ?_))⟩) (fun e1 => h0 (fun y => ?_))⟩
    · rcases y with y | y
      · exact e y.1
      · exact z y.2.2
    · rcases y with y | y
      · exact e y.1
      · exact e1 y.2.1
  · rcases y with y | y
    · exact e y.1
    · exact e8 y.1
theorem gc_isZ_val (E : gc_E) (hok : ∀ i, i < N → gc_OK f i (f i)) {j : Nat} (hj : j < N) (h : gc_isZ f j) : gc_val E f j = fun _ => gc_z := by
  rcases h with ⟨k1, n0⟩ | ⟨k8, k1, n0⟩
  · rw [gc_val_eq E (hok j hj)]
    unfold gc_sem
    rw [k1, n0]
    rfl
  · have ok := hok j hj
    have ha := ok.1 (by rw [k8]; rfl)
    rw [gc_val_eq E ok, gc_val_eq E (hok _ (Nat.lt_trans ha hj))]
    unfold gc_sem
    rw [k8, k1, n0]
    rfl
theorem gc_constant {post : Int32 → St1 → Prop} (hL : gc_L N f le a7 a8 a9 a10 a11) (hN : N < 450) (n : Int32)
    (hp : ∀ (r : Nat) (N' : Nat) (f' : Nat → gc_Op) (le' : Int32) (b7 b8 b9 b10 b11 : Nat → Int32), gc_L N' f' le' b7 b8 b9 b10 b11 → gc_MK N f N' f' r false (fun _ _ => (n, 0, 0, 0)) (fun t => t 1) → post (nI r) (nc, lv, le', fc, a1, a2, a3, a4, a5, a6, b7, b8, b9, b10, b11, a12, a13, a14, a15, a16, a17)) :
    wpX_constant post (nc, lv, le, fc, a1, a2, a3, a4, a5, a6, a7, a8, a9, a10, a11, a12, a13, a14, a15, a16, a17) n := by
  unfold wpX_constant
  refine gc_share hL hN (1, 0, 0, n, false) ⟨(fun u => absurd u Bool.false_ne_true), (fun u => absurd u Bool.false_ne_true), rfl⟩ ?_ rfl rfl rfl rfl rfl
  intro r N' f' le' b7 b8 b9 b10 b11 h m
  exact hp r N' f' le' b7 b8 b9 b10 b11 h m
theorem gc_constant_2 {post : Int32 → St1 → Prop} (hL : gc_L N f le a7 a8 a9 a10 a11) (hN : N < 450) (n : Int32)
    (hp : ∀ (r : Nat) (N' : Nat) (f' : Nat → gc_Op) (le' : Int32) (b7 b8 b9 b10 b11 : Nat → Int32), gc_L N' f' le' b7 b8 b9 b10 b11 → gc_MK N f N' f' r false (fun _ _ => (n, 0, 0, 0)) (fun t => t 1) → post (nI r) (nc, lv, le', fc, a1, a2, a3, a4, a5, a6, b7, b8, b9, b10, b11, a12, a13, a14, a15, a16, a17)) :
    wpX_constant_2 post (nc, lv, le, fc, a1, a2, a3, a4, a5, a6, a7, a8, a9, a10, a11, a12, a13, a14, a15, a16, a17) n := by
  unfold wpX_constant_2
  refine gc_share_2 hL hN (1, 0, 0, n, false) ⟨(fun u => absurd u Bool.false_ne_true), (fun u => absurd u Bool.false_ne_true), rfl⟩ ?_ rfl rfl rfl rfl rfl
  intro r N' f' le' b7 b8 b9 b10 b11 h m
  exact hp r N' f' le' b7 b8 b9 b10 b11 h m
theorem gc_room {N N' : Nat} {f f' : Nat → gc_Op} {c : (Nat → Nat) → Nat} (h : ∀ t, gc_S t f' N' ≤ gc_S t f N + c t) : N' ≤ N + c (fun _ => 1) := by
  have := h (fun _ => 1)
  rw [gc_S_one, gc_S_one] at this
  exact this
/-- a spread number -/
theorem gc_spread {post : Int32 → St1 → Prop} (hL : gc_L N f le a7 a8 a9 a10 a11) (hN : N < 450) {j : Nat} (hj : j < N) (hw : gc_w (f j) = false)
    (hp : ∀ (r : Nat) (N' : Nat) (f' : Nat → gc_Op) (le' : Int32) (b7 b8 b9 b10 b11 : Nat → Int32), gc_L N' f' le' b7 b8 b9 b10 b11 → gc_MK N f N' f' r true (fun E => gc_val E f j) (fun t => t 8) → post (nI r) (nc, lv, le', fc, a1, a2, a3, a4, a5, a6, b7, b8, b9, b10, b11, a12, a13, a14, a15, a16, a17)) :
    wpX_share post (nc, lv, le, fc, a1, a2, a3, a4, a5, a6, a7, a8, a9, a10, a11, a12, a13, a14, a15, a16, a17) 8 (nI j) (-1) 0 1 := by
  refine gc_share hL hN (8, j, 0, 0, true) ⟨(fun _ => hj), (fun u => absurd u Bool.false_ne_true), rfl, hw⟩ ?_ rfl rfl rfl rfl rfl
  intro r N' f' le' b7 b8 b9 b10 b11 h m
  exact hp r N' f' le' b7 b8 b9 b10 b11 h m
theorem gc_zero {post : Int32 → St1 → Prop} (hL : gc_L N f le a7 a8 a9 a10 a11) (hN : N + 2 ≤ 450) (w : Bool)
    (hp : ∀ (r : Nat) (N' : Nat) (f' : Nat → gc_Op) (le' : Int32) (b7 b8 b9 b10 b11 : Nat → Int32), gc_L N' f' le' b7 b8 b9 b10 b11 → gc_MK N f N' f' r w (fun _ _ => gc_z) (fun t => t 1 + if w then t 8 else 0) → post (nI r) (nc, lv, le', fc, a1, a2, a3, a4, a5, a6, b7, b8, b9, b10, b11, a12, a13, a14, a15, a16, a17)) :
    wpX_zero post (nc, lv, le, fc, a1, a2, a3, a4, a5, a6, a7, a8, a9, a10, a11, a12, a13, a14, a15, a16, a17) (gc_B w) := by
  unfold wpX_zero
  refine gc_constant hL (by omega) 0 ?_
  intro r N' f' le' b7 b8 b9 b10 b11 h m
  refine br_c (fun z => ?_) (fun z => ?_)
  · have hw : w = false := gc_B0.mp z
    subst hw
    exact hp r N' f' le' b7 b8 b9 b10 b11 h m
  · have hw : w = true := by
      cases w
      · exact absurd rfl z
      · rfl
    subst hw
    have hroom := gc_room m.2.2.2.2
    dsimp only at hroom
    refine gc_spread h (by omega) m.2.1 m.2.2.1 ?_
    intro r2 N'' f'' le'' c7 c8 c9 c10 c11 h2 m2
    refine hp r2 N'' f'' le'' c7 c8 c9 c10 c11 h2 ⟨gc_X_trans m.1 m2.1, m2.2.1, m2.2.2.1, fun E => (m2.2.2.2.1 E).trans (m.2.2.2.1 E), fun t => ?_⟩
    have x1 := m.2.2.2.2 t
    have x2 := m2.2.2.2.2 t
    dsimp only at x1 x2
    show _ ≤ _ + (t 1 + t 8)
    omega
theorem gc_widened {post : Int32 → St1 → Prop} (hL : gc_L N f le a7 a8 a9 a10 a11) (hN : N < 450) {j : Nat} (hj : j < N) (w : Bool) (hw : gc_w (f j) = true → w = true)
    (hp : ∀ (r : Nat) (N' : Nat) (f' : Nat → gc_Op) (le' : Int32) (b7 b8 b9 b10 b11 : Nat → Int32), gc_L N' f' le' b7 b8 b9 b10 b11 → gc_MK N f N' f' r w (fun E => gc_val E f j) (fun t => t 8) → post (nI r) (nc, lv, le', fc, a1, a2, a3, a4, a5, a6, b7, b8, b9, b10, b11, a12, a13, a14, a15, a16, a17)) :
    wpX_widened post (nc, lv, le, fc, a1, a2, a3, a4, a5, a6, a7, a8, a9, a10, a11, a12, a13, a14, a15, a16, a17) (nI j) (gc_B w) := by
  have hc : (nI j).toNatClampNeg = j := nI_clamp (by omega)
  have hin : vp_in (nI j) 450 := vp_in_nI (by omega) (by omega)
  obtain ⟨⟨_, _, _, _, r4⟩, ok⟩ := hL.2.2 j hj
  unfold wpX_widened
  dsimp only
  rw [hc, r4]
  refine ⟨hin, br_c (fun e => ?_) (fun e => ?_)⟩
  · exact hp j N f le a7 a8 a9 a10 a11 hL (gc_MK_here hj (gc_Binj.mp e) (fun _ => rfl))
  · have e' : ¬ gc_w (f j) = w := fun z => e (gc_Binj.mpr z)
    have hj0 : gc_w (f j) = false := by
      cases hx : gc_w (f j)
      · rfl
      · exact absurd (hx.trans (hw hx).symm) e'
    have hw1 : w = true := by
      cases hx : w
      · exact absurd (hj0.trans hx.symm) e'
      · rfl
    subst hw1
    refine gc_spread hL hN hj hj0 ?_
    intro r N' f' le' b7 b8 b9 b10 b11 h m
    exact hp r N' f' le' b7 b8 b9 b10 b11 h m
/-- what making an operation of a kind may cost -/
def gc_mc (k : Nat) (t : Nat → Nat) : Nat :=
  match k with
  | 0 => t 0
  | 1 => t 1
  | 8 => t 8
  | 11 => t 11
  | 2 => max (t 2) (max (t 1) (t 8))
  | 3 => max (t 3) (max (t 1) (t 8))
  | 5 => max (t 5) (t 1)
  | 7 => max (t 7) (t 1)
  | k => max (t k) (t 1 + t 8)
theorem gc_mc_self (k : Nat) (t : Nat → Nat) : t k ≤ gc_mc k t := by
  unfold gc_mc
  split <;> first | exact Nat.le_refl _ | exact Nat.le_max_left _ _
theorem gc_simC116 {post : Int32 → St1 → Prop} (hL : gc_L N f le a7 a8 a9 a10 a11) {a b : Nat} (ha : a < N) (hb : b < N) {w : Bool} (hw : w = (gc_w (f a) || gc_w (f b))) {c : (Nat → Nat) → Nat}
    (hp : ∀ (r : Nat) (N' : Nat) (f' : Nat → gc_Op) (le' : Int32) (b7 b8 b9 b10 b11 : Nat → Int32), gc_L N' f' le' b7 b8 b9 b10 b11 → gc_MK N f N' f' r w (fun E => gc_sm E 4 0 (gc_val E f a) (gc_val E f b)) c → post (nI r) (nc, lv, le', fc, a1, a2, a3, a4, a5, a6, b7, b8, b9, b10, b11, a12, a13, a14, a15, a16, a17))
    (h0 : post (-1) (nc, lv, le, fc, a1, a2, a3, a4, a5, a6, a7, a8, a9, a10, a11, a12, a13, a14, a15, a16, a17)) : wX_simplerCombined_116 post (nI a) (nI b) nc lv le fc a1 a2 a3 a4 a5 a6 a7 a8 a9 a10 a11 a12 a13 a14 a15 a16 a17 := by
  have hN := hL.2.1
  have hc : (nI b).toNatClampNeg = b := nI_clamp (by omega)
  obtain ⟨⟨_, _, _, r3, _⟩, ok⟩ := hL.2.2 b hb
  unfold wX_simplerCombined_116
  rw [hc, r3]
  refine gc_isKnown hL hb (fun k1 => br_f (by decide) ⟨vp_in_nI (by omega) (by omega), br_c (fun n1 => ?_) (fun _ => h0)⟩) (fun _ => br_t rfl h0)
  have wb : gc_w (f b) = false := by
    have := ok.2.2
    rw [k1] at this
    exact this
  refine hp a N f le a7 a8 a9 a10 a11 hL (gc_MK_here ha (by rw [hw, wb, Bool.or_false]) (fun E => ?_))
  have eb : gc_val E f b = fun _ => (1, 0, 0, 0) := by
    rw [gc_val_eq E ok]
    unfold gc_sem
    rw [k1, n1]
    rfl
  rw [eb]
  funext c
  exact (gc_mul_one _).symm
theorem gc_simC68 {post : Int32 → St1 → Prop} (hL : gc_L N f le a7 a8 a9 a10 a11) (hN : N + 2 ≤ 450) {k a b : Nat} (hk : k = 2 ∨ k = 3 ∨ k = 4) (ha : a < N) (hb : b < N) {w : Bool} (hw : w = (gc_w (f a) || gc_w (f b)))
    (hp : ∀ (r : Nat) (N' : Nat) (f' : Nat → gc_Op) (le' : Int32) (b7 b8 b9 b10 b11 : Nat → Int32), gc_L N' f' le' b7 b8 b9 b10 b11 → gc_MK N f N' f' r w (fun E => gc_sm E k 0 (gc_val E f a) (gc_val E f b)) (gc_mc k) → post (nI r) (nc, lv, le', fc, a1, a2, a3, a4, a5, a6, b7, b8, b9, b10, b11, a12, a13, a14, a15, a16, a17))
    (h0 : post (-1) (nc, lv, le, fc, a1, a2, a3, a4, a5, a6, a7, a8, a9, a10, a11, a12, a13, a14, a15, a16, a17)) : wX_simplerCombined_68 post (nI k) (nI a) (nI b) (gc_B w) nc lv le fc a1 a2 a3 a4 a5 a6 a7 a8 a9 a10 a11 a12 a13 a14 a15 a16 a17 := by
  have hok : ∀ i, i < N → gc_OK f i (f i) := fun i hi => (hL.2.2 i hi).2
  have hc : (nI a).toNatClampNeg = a := nI_clamp (by omega)
  obtain ⟨⟨_, _, _, r3, _⟩, ok⟩ := hL.2.2 a ha
  unfold wX_simplerCombined_68
  rw [hc, r3]
  refine pk_eq k 4 (fun e4 => ?_) (fun e4 => ?_)
  · subst e4
    have Z : gc_isZ f a ∨ gc_isZ f b → wX_simplerCombined_89 post (gc_B w) nc lv le fc a1 a2 a3 a4 a5 a6 a7 a8 a9 a10 a11 a12 a13 a14 a15 a16 a17 := by
      intro hz
      unfold wX_simplerCombined_89
      refine gc_zero hL hN w ?_
      intro r N' f' le' b7 b8 b9 b10 b11 h m
      refine hp r N' f' le' b7 b8 b9 b10 b11 h (gc_MK_mono m rfl (fun E => ?_) (fun t => ?_))
      · funext c
        rcases hz with hz | hz
        · show gc_z = gc_mul _ _
          rw [gc_isZ_val E hok ha hz, gc_z_mul]
        · show gc_z = gc_mul _ _
          rw [gc_isZ_val E hok hb hz, gc_mul_z]
      · show t 1 + (if w then t 8 else 0) ≤ max (t 4) (t 1 + t 8)
        cases w <;> simp only [if_true, if_false, Bool.false_eq_true] <;> omega
    refine gc_isZero hL ha (fun z => br_f (by decide) (Z (Or.inl z))) (fun _ => br_t rfl ?_)
    refine gc_isZero hL hb (fun z => br_f (by decide) (Z (Or.inr z))) (fun _ => br_t rfl ?_)
    refine gc_isKnown hL ha (fun k1 => br_f (by decide) ⟨vp_in_nI (by omega) (by omega), br_c (fun n1 => ?_) (fun _ => gc_simC116 hL ha hb hw hp h0)⟩) (fun _ => br_t rfl (gc_simC116 hL ha hb hw hp h0))
    have wa : gc_w (f a) = false := by
      have := ok.2.2
      rw [k1] at this
      exact this
    refine hp b N f le a7 a8 a9 a10 a11 hL (gc_MK_here hb (by rw [hw, wa, Bool.false_or]) (fun E => ?_))
    have ea : gc_val E f a = fun _ => (1, 0, 0, 0) := by
      rw [gc_val_eq E ok]
      unfold gc_sem
      rw [k1, n1]
      rfl
    rw [ea]
    funext c
    exact (gc_one_mul _).symm
  · have mc8 : ∀ t, t 8 ≤ gc_mc k t := by
      intro t
      rcases hk with e | e | e
      · subst e; show _ ≤ max (t 2) (max (t 1) (t 8)); omega
      · subst e; show _ ≤ max (t 3) (max (t 1) (t 8)); omega
      · exact absurd e e4
    refine gc_isZero hL hb (fun z => br_f (by decide) ?_) (fun _ => br_t rfl ?_)
    · refine gc_widened hL (by omega) ha w (fun z => by rw [hw, z]; rfl) ?_
      intro r N' f' le' b7 b8 b9 b10 b11 h m
      refine hp r N' f' le' b7 b8 b9 b10 b11 h (gc_MK_mono m rfl (fun E => ?_) mc8)
      rw [gc_isZ_val E hok hb z]
      funext c
      rcases hk with e | e | e
      · subst e; exact (gc_add_z _).symm
      · subst e; exact (gc_sub_z _).symm
      · exact absurd e e4
    · refine pk_eq k 2 (fun e2 => ?_) (fun _ => h0)
      subst e2
      refine gc_isZero hL ha (fun z => br_f (by decide) ?_) (fun _ => br_t rfl h0)
      refine gc_widened hL (by omega) hb w (fun z => by rw [hw, z, Bool.or_true]) ?_
      intro r N' f' le' b7 b8 b9 b10 b11 h m
      refine hp r N' f' le' b7 b8 b9 b10 b11 h (gc_MK_mono m rfl (fun E => ?_) mc8)
      rw [gc_isZ_val E hok ha z]
      funext c
      exact (gc_z_add _).symm
theorem gc_simC {post : Int32 → St1 → Prop} (hL : gc_L N f le a7 a8 a9 a10 a11) (hN : N + 2 ≤ 450) {k a b : Nat} (hk : k = 2 ∨ k = 3 ∨ k = 4) (ha : a < N) (hb : b < N) {w : Bool} (hw : w = (gc_w (f a) || gc_w (f b)))
    (hp : ∀ (r : Nat) (N' : Nat) (f' : Nat → gc_Op) (le' : Int32) (b7 b8 b9 b10 b11 : Nat → Int32), gc_L N' f' le' b7 b8 b9 b10 b11 → gc_MK N f N' f' r w (fun E => gc_sm E k 0 (gc_val E f a) (gc_val E f b)) (gc_mc k) → post (nI r) (nc, lv, le', fc, a1, a2, a3, a4, a5, a6, b7, b8, b9, b10, b11, a12, a13, a14, a15, a16, a17))
    (h0 : post (-1) (nc, lv, le, fc, a1, a2, a3, a4, a5, a6, a7, a8, a9, a10, a11, a12, a13, a14, a15, a16, a17)) : wpX_simplerCombined post (nc, lv, le, fc, a1, a2, a3, a4, a5, a6, a7, a8, a9, a10, a11, a12, a13, a14, a15, a16, a17) (nI k) (nI a) (nI b) (gc_B w) := by
  have hca : (nI a).toNatClampNeg = a := nI_clamp (by omega)
  have hcb : (nI b).toNatClampNeg = b := nI_clamp (by omega)
  obtain ⟨⟨_, _, _, ra, _⟩, oka⟩ := hL.2.2 a ha
  obtain ⟨⟨_, _, _, rb, _⟩, okb⟩ := hL.2.2 b hb
  have R := gc_simC68 hL hN hk ha hb hw hp h0
  unfold wpX_simplerCombined
  dsimp only
  rw [hca, hcb, ra, rb]
  refine gc_isKnown hL ha (fun ka => br_f (by decide) ?_) (fun _ => br_t rfl R)
  refine gc_isKnown hL hb (fun kb => br_f (by decide) ?_) (fun _ => br_t rfl R)
  refine ⟨vp_in_nI (by omega) (by omega), nm_e ⟨vp_in_nI (by omega) (by omega), nm_e ?_⟩⟩
  have wa : gc_w (f a) = false := by
    have := oka.2.2
    rw [ka] at this
    exact this
  have wb : gc_w (f b) = false := by
    have := okb.2.2
    rw [kb] at this
    exact this
  have w0 : false = w := by rw [hw, wa, wb]; rfl
  have ea : ∀ E, gc_val E f a = fun _ => (gc_n (f a), 0, 0, 0) := by
    intro E
    rw [gc_val_eq E oka]
    unfold gc_sem
    rw [ka]
    rfl
  have eb : ∀ E, gc_val E f b = fun _ => (gc_n (f b), 0, 0, 0) := by
    intro E
    rw [gc_val_eq E okb]
    unfold gc_sem
    rw [kb]
    rfl
  have C : ∀ z : Int32, (∀ E : gc_E, (fun _ : Nat => ((z, 0, 0, 0) : gc_H)) = gc_sm E k 0 (gc_val E f a) (gc_val E f b)) → wX_simplerCombined_64 post z nc lv le fc a1 a2 a3 a4 a5 a6 a7 a8 a9 a10 a11 a12 a13 a14 a15 a16 a17 := by
    intro z hz
    unfold wX_simplerCombined_64
    refine gc_constant hL (by omega) z ?_
    intro r N' f' le' b7 b8 b9 b10 b11 h m
    refine hp r N' f' le' b7 b8 b9 b10 b11 h (gc_MK_mono m w0 hz (fun t => ?_))
    rcases hk with e | e | e
    · subst e; show t 1 ≤ max (t 2) (max (t 1) (t 8)); omega
    · subst e; show t 1 ≤ max (t 3) (max (t 1) (t 8)); omega
    · subst e; show t 1 ≤ max (t 4) (t 1 + t 8); omega
  refine pk_eq k 2 (fun e => C _ (fun E => ?_)) (fun e2 => pk_eq k 3 (fun e => C _ (fun E => ?_)) (fun e3 => C _ (fun E => ?_)))
  · subst e
    rw [ea E, eb E]
    rfl
  · subst e
    rw [ea E, eb E]
    funext c
    refine gc_Hx ?_ ?_ ?_ ?_ <;> simp only [gc_sm, gc_sub] <;> grind
  · have e : k = 4 := by omega
    subst e
    rw [ea E, eb E]
    funext c
    refine gc_Hx ?_ ?_ ?_ ?_ <;> simp only [gc_sm, gc_mul] <;> grind
end
end
section
section
variable {nc lv le fc : Int32} {a1 a2 a3 a4 a5 a6 a7 a8 a9 a10 a11 a12 a13 a14 a15 a16 a17 : Nat → Int32}
variable {N : Nat} {f : Nat → gc_Op}
/-- a turn, a sum .. of 0 is 0 -/
theorem gc_unary_z (E : gc_E) {k : Nat} (hk : k = 5 ∨ k = 6 ∨ k = 7 ∨ k = 10 ∨ k = 12 ∨ k = 14) (n : Int32) (y : gc_V) : gc_sm E k n (fun _ => gc_z) y = fun _ => gc_z := by
  have zz : gc_add gc_z gc_z = gc_z := gc_add_z _
  rcases hk with e | e | e | e | e | e <;> subst e
  · funext c
    show gc_add (gc_add (gc_add gc_z gc_z) gc_z) gc_z = gc_z
    rw [zz, zz, zz]
  · rfl
  · rfl
  · funext c
    show gc_run _ c = gc_z
    induction c with
    | zero => rfl
    | succ c ih =>
      show gc_add (gc_run _ c) gc_z = gc_z
      rw [ih, zz]
  · funext c
    show (if _ then gc_z else gc_z) = gc_z
    split <;> rfl
  · funext c
    show gc_rub (fun _ => gc_z) c = gc_z
    unfold gc_rub
    split <;> simp only [zz]
theorem gc_s4_place {j : Nat} (hj : j < 4) (x : gc_H) : x = gc_s4 (fun c => if c = j then x else gc_z) := by
  have z1 := gc_add_z
  have z2 := gc_z_add
  unfold gc_s4
  match j, hj with
  | 0, _ => simp [z1]
  | 1, _ => simp [z1, z2]
  | 2, _ => simp [z1, z2]
  | 3, _ => simp [z2]
theorem gc_clamp_lt {j : Nat} (h : j < 12) : (nI j).toNatClampNeg = j := nI_clamp (by omega)
theorem gc_simplified {post : Int32 → St1 → Prop} (hL : gc_L N f le a7 a8 a9 a10 a11) (hN : N + 2 ≤ 450) (o : gc_Op) (ok : gc_OK f N o)
    (hp : ∀ (r : Nat) (N' : Nat) (f' : Nat → gc_Op) (le' : Int32) (b7 b8 b9 b10 b11 : Nat → Int32), gc_L N' f' le' b7 b8 b9 b10 b11 → gc_MK N f N' f' r (gc_w o) (fun E => gc_sem E o (gc_val E f (gc_a o)) (gc_val E f (gc_b o))) (gc_mc (gc_k o)) → post (nI r) (nc, lv, le', fc, a1, a2, a3, a4, a5, a6, b7, b8, b9, b10, b11, a12, a13, a14, a15, a16, a17))
    (h0 : post (-1) (nc, lv, le, fc, a1, a2, a3, a4, a5, a6, a7, a8, a9, a10, a11, a12, a13, a14, a15, a16, a17)) {p0 p1 p2 p3 p4 : Int32} (e0 : p0 = nI (gc_k o)) (e1 : p1 = gc_e1 o) (e2 : p2 = gc_e2 o) (e3 : p3 = gc_n o) (e4 : p4 = gc_B (gc_w o)) :
    wpX_simplified post (nc, lv, le, fc, a1, a2, a3, a4, a5, a6, a7, a8, a9, a10, a11, a12, a13, a14, a15, a16, a17) p0 p1 p2 p3 p4 := by
  have hok : ∀ i, i < N → gc_OK f i (f i) := fun i hi => (hL.2.2 i hi).2
  subst e0 e1 e2 e3 e4
  obtain ⟨k, a, b, n, w⟩ := o
  obtain ⟨o1, o2, o3⟩ := ok
  dsimp only [gc_k, gc_a, gc_b, gc_n, gc_w, gc_sem] at o1 o2 o3 hp ⊢
  have k15 := gc_k15 o3
  have E1 : gc_u1 k = true → gc_e1 (k, a, b, n, w) = nI a := fun u => by unfold gc_e1; exact if_pos u
  have E2 : gc_u2 k = true → gc_e2 (k, a, b, n, w) = nI b := fun u => by unfold gc_e2; exact if_pos u
  have MC : (k = 2 ∨ k = 3 ∨ k = 4) → wX_simplified_32 post (nI k) (gc_e1 (k, a, b, n, w)) (gc_e2 (k, a, b, n, w)) (gc_B w) nc lv le fc a1 a2 a3 a4 a5 a6 a7 a8 a9 a10 a11 a12 a13 a14 a15 a16 a17 := by
    intro hk
    have u1 : gc_u1 k = true := by rcases hk with e | e | e <;> subst e <;> rfl
    have u2 : gc_u2 k = true := by rcases hk with e | e | e <;> subst e <;> rfl
    have hw : w = (gc_w (f a) || gc_w (f b)) := by rcases hk with e | e | e <;> subst e <;> exact o3
    have hn : ∀ (E : gc_E) (x y : gc_V), gc_sm E k 0 x y = gc_sm E k n x y := by intro E x y; rcases hk with e | e | e <;> subst e <;> rfl
    unfold wX_simplified_32
    rw [E1 u1, E2 u2]
    refine gc_simC hL hN hk (o1 u1) (o2 u2) hw ?_ h0
    intro r N' f' le' b7 b8 b9 b10 b11 h m
    exact hp r N' f' le' b7 b8 b9 b10 b11 h (gc_MK_mono m rfl (fun E => hn E _ _) (fun _ => Nat.le_refl _))
  unfold wpX_simplified
  refine pk_eq k 0 (fun _ => h0) (fun n0 => pk_eq k 1 (fun _ => h0) (fun n1 => pk_eq k 11 (fun _ => h0) (fun n11 => pk_eq k 2 (fun e => MC (Or.inl e)) (fun n2 => pk_eq k 3 (fun e => MC (Or.inr (Or.inl e))) (fun n3 => pk_eq k 4 (fun e => MC (Or.inr (Or.inr e))) (fun n4 => pk_eq k 13 (fun e13 => ?_) (fun n13 => pk_eq k 8 (fun _ => h0) (fun n8 => ?_))))))))
  · subst e13
    have ha := o1 rfl
    have hb := o2 rfl
    have Z : gc_isZ f a ∨ gc_isZ f b → wX_simplified_64 post (gc_B w) nc lv le fc a1 a2 a3 a4 a5 a6 a7 a8 a9 a10 a11 a12 a13 a14 a15 a16 a17 := by
      intro hz
      unfold wX_simplified_64
      refine gc_zero hL hN w ?_
      intro r N' f' le' b7 b8 b9 b10 b11 h m
      refine hp r N' f' le' b7 b8 b9 b10 b11 h (gc_MK_mono m rfl (fun E => ?_) (fun t => ?_))
      · funext c
        show gc_z = if 0 < (gc_val E f a c).1 then gc_val E f b c else gc_z
        rcases hz with hz | hz
        · rw [gc_isZ_val E hok ha hz]
          have t : ¬ (0 : Int32) < gc_z.1 := by decide
          exact (if_neg t).symm
        · rw [gc_isZ_val E hok hb hz]
          exact (ite_self _).symm
      · show t 1 + (if w then t 8 else 0) ≤ max (t 13) (t 1 + t 8)
        cases w <;> simp only [if_true, if_false, Bool.false_eq_true] <;> omega
    rw [E1 rfl, E2 rfl]
    refine gc_isZero hL ha (fun z => br_f (by decide) (Z (Or.inl z))) (fun _ => br_t rfl ?_)
    exact gc_isZero hL hb (fun z => br_f (by decide) (Z (Or.inr z))) (fun _ => br_t rfl h0)
  · have hk : k = 5 ∨ k = 6 ∨ k = 7 ∨ k = 10 ∨ k = 12 ∨ k = 14 := by
      have n9 : k ≠ 9 := fun e => by subst e; exact o3
      omega
    have u1 : gc_u1 k = true := by rcases hk with e | e | e | e | e | e <;> subst e <;> rfl
    have ha := o1 u1
    have hc : (nI a).toNatClampNeg = a := nI_clamp (by omega)
    have hin : vp_in (nI a) 450 := vp_in_nI (by omega) (by omega)
    obtain ⟨⟨r0, r1, _, r3, _⟩, ok⟩ := hL.2.2 a ha
    have q15 := gc_k15 ok.2.2
    rw [E1 u1]
    refine gc_isZero hL ha (fun z => br_f (by decide) ?_) (fun _ => br_t rfl ?_)
    · refine gc_zero hL hN w ?_
      intro r N' f' le' b7 b8 b9 b10 b11 h m
      refine hp r N' f' le' b7 b8 b9 b10 b11 h (gc_MK_mono m rfl (fun E => ?_) (fun t => ?_))
      · rw [gc_isZ_val E hok ha z, gc_unary_z E hk]
      · rcases hk with e | e | e | e | e | e <;> subst e
        · have e : w = false := o3.1
          subst e
          show t 1 + 0 ≤ max (t 5) (t 1)
          omega
        · have e : w = true := o3.1
          subst e
          show t 1 + t 8 ≤ max (t 6) (t 1 + t 8)
          omega
        · have e : w = false := o3.1
          subst e
          show t 1 + 0 ≤ max (t 7) (t 1)
          omega
        · have e : w = true := o3.1
          subst e
          show t 1 + t 8 ≤ max (t 10) (t 1 + t 8)
          omega
        · have e : w = true := o3.1
          subst e
          show t 1 + t 8 ≤ max (t 12) (t 1 + t 8)
          omega
        · have e : w = true := o3.1
          subst e
          show t 1 + t 8 ≤ max (t 14) (t 1 + t 8)
          omega
    · have R165 : wX_simplified_165 post (nI k) (nI a) nc lv le fc a1 a2 a3 a4 a5 a6 a7 a8 a9 a10 a11 a12 a13 a14 a15 a16 a17 := by
        unfold wX_simplified_165
        rw [hc, r0]
        refine pk_eq k 5 (fun e5 => ⟨hin, pk_eq (gc_k (f a)) 12 (fun e12 => ⟨hin, ?_⟩) (fun _ => h0)⟩) (fun _ => h0)
        subst e5
        have ux : gc_u1 (gc_k (f a)) = true := by rw [e12]; rfl
        have hx := ok.1 ux
        have ex : a8 a = nI (gc_a (f a)) := by rw [r1]; unfold gc_e1; rw [if_pos ux]
        have o4 := ok.2.2
        rw [e12] at o4
        obtain ⟨_, wx, j, hj, hn⟩ := o4
        have hw : w = false := o3.1
        rw [ex]
        refine hp _ N f le a7 a8 a9 a10 a11 hL (gc_MK_here (by omega) (wx.trans hw.symm) (fun E => ?_))
        have fl := gc_flat E hok (gc_a (f a)) (by omega) wx
        have va : gc_val E f a = fun c => if c = j then gc_val E f (gc_a (f a)) 0 else gc_z := by
          rw [gc_val_eq E ok]
          unfold gc_sem
          rw [e12, hn]
          funext c
          show (if c = (nI j).toNatClampNeg then _ else _) = _
          rw [gc_clamp_lt (by omega)]
        rw [va]
        funext c
        rw [fl c 0]
        exact gc_s4_place hj _
      have R122 : wX_simplified_122 post (nI k) (nI a) n nc lv le fc a1 a2 a3 a4 a5 a6 a7 a8 a9 a10 a11 a12 a13 a14 a15 a16 a17 := by
        unfold wX_simplified_122
        rw [hc, r0, r3]
        refine pk_eq k 7 (fun e7 => ⟨hin, pk_eq (gc_k (f a)) 12 (fun e12 => ⟨hin, ?_⟩) (fun _ => R165)⟩) (fun _ => R165)
        subst e7
        have ux : gc_u1 (gc_k (f a)) = true := by rw [e12]; rfl
        have hx := ok.1 ux
        have ex : a8 a = nI (gc_a (f a)) := by rw [r1]; unfold gc_e1; rw [if_pos ux]
        have o4 := ok.2.2
        rw [e12] at o4
        obtain ⟨_, wx, j, hj, hn⟩ := o4
        obtain ⟨hw, _, i, hi, hni⟩ := o3
        have va : ∀ E, gc_val E f a = fun c => if c = j then gc_val E f (gc_a (f a)) 0 else gc_z := by
          intro E
          rw [gc_val_eq E ok]
          unfold gc_sem
          rw [e12, hn]
          funext c
          show (if c = (nI j).toNatClampNeg then _ else _) = _
          rw [gc_clamp_lt (by omega)]
        refine br_c (fun en => ⟨hin, ?_⟩) (fun en => ?_)
        · rw [ex]
          refine hp _ N f le a7 a8 a9 a10 a11 hL (gc_MK_here (by omega) (wx.trans hw.symm) (fun E => ?_))
          have fl := gc_flat E hok (gc_a (f a)) (by omega) wx
          have ij : i = j := by
            rw [hn, hni] at en
            exact ((nI_eq (by omega) (by omega)).mp en).symm
          rw [va E]
          funext c
          show _ = (if n.toNatClampNeg = j then _ else _)
          rw [hni, gc_clamp_lt (by omega), if_pos ij]
          exact fl c 0
        · refine gc_zero hL hN false ?_
          intro r N' f' le' b7 b8 b9 b10 b11 h m
          refine hp r N' f' le' b7 b8 b9 b10 b11 h (gc_MK_mono m hw.symm (fun E => ?_) (fun t => ?_))
          · have ij : ¬ i = j := by
              intro z
              rw [hn, hni, z] at en
              exact en rfl
            rw [va E]
            funext c
            show _ = (if n.toNatClampNeg = j then _ else _)
            rw [hni, gc_clamp_lt (by omega), if_neg ij]
          · show t 1 + 0 ≤ max (t 7) (t 1)
            omega
      refine pk_eq k 7 (fun e7 => ⟨hin, ?_⟩) (fun _ => R122)
      rw [hc, r0]
      refine pk_eq (gc_k (f a)) 8 (fun e8 => ⟨hin, ?_⟩) (fun _ => R122)
      subst e7
      have ux : gc_u1 (gc_k (f a)) = true := by rw [e8]; rfl
      have hx := ok.1 ux
      have ex : a8 a = nI (gc_a (f a)) := by rw [r1]; unfold gc_e1; rw [if_pos ux]
      have o4 := ok.2.2
      rw [e8] at o4
      have wx := o4.2
      obtain ⟨hw, _, i, hi, hni⟩ := o3
      rw [ex]
      refine hp _ N f le a7 a8 a9 a10 a11 hL (gc_MK_here (by omega) (wx.trans hw.symm) (fun E => ?_))
      have fl := gc_flat E hok (gc_a (f a)) (by omega) wx
      have va : gc_val E f a = fun c => gc_val E f (gc_a (f a)) c := by
        rw [gc_val_eq E ok]
        unfold gc_sem
        rw [e8]
        rfl
      rw [va]
      funext c
      exact fl c _
theorem gc_make {post : Int32 → St1 → Prop} (hL : gc_L N f le a7 a8 a9 a10 a11) (hN : N + 2 ≤ 450) (o : gc_Op) (ok : gc_OK f N o)
    (hp : ∀ (r : Nat) (N' : Nat) (f' : Nat → gc_Op) (le' : Int32) (b7 b8 b9 b10 b11 : Nat → Int32), gc_L N' f' le' b7 b8 b9 b10 b11 → gc_MK N f N' f' r (gc_w o) (fun E => gc_sem E o (gc_val E f (gc_a o)) (gc_val E f (gc_b o))) (gc_mc (gc_k o)) → post (nI r) (nc, lv, le', fc, a1, a2, a3, a4, a5, a6, b7, b8, b9, b10, b11, a12, a13, a14, a15, a16, a17))
    {p0 p1 p2 p3 p4 : Int32} (e0 : p0 = nI (gc_k o)) (e1 : p1 = gc_e1 o) (e2 : p2 = gc_e2 o) (e3 : p3 = gc_n o) (e4 : p4 = gc_B (gc_w o)) :
    wpX_make post (nc, lv, le, fc, a1, a2, a3, a4, a5, a6, a7, a8, a9, a10, a11, a12, a13, a14, a15, a16, a17) p0 p1 p2 p3 p4 := by
  have SH : wX_make_28 post p0 p1 p2 p3 p4 nc lv le fc a1 a2 a3 a4 a5 a6 a7 a8 a9 a10 a11 a12 a13 a14 a15 a16 a17 := by
    unfold wX_make_28
    refine gc_share hL (by omega) o ok ?_ e0 e1 e2 e3 e4
    intro r N' f' le' b7 b8 b9 b10 b11 h m
    exact hp r N' f' le' b7 b8 b9 b10 b11 h (gc_MK_mono m rfl (fun _ => rfl) (fun t => gc_mc_self _ t))
  unfold wpX_make
  refine br_c (fun _ => SH) (fun _ => ?_)
  refine gc_simplified hL hN o ok ?_ (br_t (by decide) SH) e0 e1 e2 e3 e4
  intro r N' f' le' b7 b8 b9 b10 b11 h m
  exact br_f (nI_pos (by have := m.2.1; have := h.2.1; omega)) (hp r N' f' le' b7 b8 b9 b10 b11 h m)
end
end
section
section
variable {nc lv le fc : Int32} {a1 a2 a3 a4 a5 a6 a7 a8 a9 a10 a11 a12 a13 a14 a15 a16 a17 : Nat → Int32}
variable {N : Nat} {f : Nat → gc_Op}
/-- a node as an operation -/
def gc_nd (o : gc_Op) (x1 x2 x3 x4 : Int32) : Prop :=
  x4 = gc_B (gc_w o) ∧
  match gc_k o with
  | 0 => x1 = 0 ∧ x2 = gc_n o
  | 1 => x1 = 1 ∧ x2 = gc_n o
  | 2 => x1 = 2 ∧ x2 = nI (gc_a o) ∧ x3 = nI (gc_b o) ∧ gc_n o = 0
  | 3 => x1 = 3 ∧ x2 = nI (gc_a o) ∧ x3 = nI (gc_b o) ∧ gc_n o = 0
  | 4 => x1 = 4 ∧ x2 = nI (gc_a o) ∧ x3 = nI (gc_b o) ∧ gc_n o = 0
  | 5 => x1 = 5 ∧ x2 = nI (gc_a o) ∧ gc_n o = 0
  | 6 => x1 = 6 ∧ x2 = nI (gc_a o) ∧ gc_n o = 1
  | 7 => x1 = 7 ∧ x2 = nI (gc_a o) ∧ x3 = gc_n o
  | 8 => x1 = 8 ∧ x2 = nI (gc_a o) ∧ gc_n o = 0
  | 10 => x1 = 10 ∧ x2 = nI (gc_a o) ∧ gc_n o = 0
  | 13 => x1 = 9 ∧ x2 = nI (gc_a o) ∧ gc_b o = gc_a o ∧ gc_n o = 0
  | _ => False
/-- the program holds n nodes, G -/
def gc_G (n : Nat) (G : Nat → gc_Op) (nc : Int32) (a1 a2 a3 a4 : Nat → Int32) : Prop :=
  nc = nI n ∧ n ≤ 12 ∧ ∀ i, i < n → gc_nd (G i) (a1 i) (a2 i) (a3 i) (a4 i) ∧ gc_OK G i (G i)
/-- nodes below i are written down -/
def gc_TR (G : Nat → gc_Op) (i N : Nat) (f : Nat → gc_Op) (a12 : Nat → Int32) : Prop :=
  (∀ j, j < i → ∃ r, a12 j = nI r ∧ r < N ∧ gc_w (f r) = gc_w (G j) ∧ ∀ E, gc_val E f r = gc_val E G j) ∧ ∀ t, gc_S t f N ≤ gc_S (fun k => gc_mc k t) G i
theorem gc_S_bound (t : Nat → Nat) (f : Nat → gc_Op) (b : Nat) (n : Nat) (h : ∀ i, i < n → t (gc_k (f i)) ≤ b) : gc_S t f n ≤ n * b := by
  induction n with
  | zero => exact Nat.zero_le _
  | succ n ih =>
    have h1 := ih (fun i hi => h i (by omega))
    have h2 := h n (by omega)
    show gc_S t f n + t (gc_k (f n)) ≤ (n + 1) * b
    rw [Nat.succ_mul]
    omega
theorem gc_mc_one (k : Nat) : gc_mc k (fun _ => 1) ≤ 2 := by
  unfold gc_mc
  split <;> first | decide | exact Nat.le_refl 2
theorem gc_TR_room {G : Nat → gc_Op} {i : Nat} (h : gc_TR G i N f a12) : N ≤ i * 2 := by
  have := h.2 (fun _ => 1)
  rw [gc_S_one] at this
  exact Nat.le_trans this (gc_S_bound _ G 2 i (fun j _ => gc_mc_one _))
theorem gc_traceNode {post : Int32 → St1 → Prop} {n i : Nat} {G : Nat → gc_Op} (hG : gc_G n G nc a1 a2 a3 a4) (hi : i < n) (hL : gc_L N f le a7 a8 a9 a10 a11) (hT : gc_TR G i N f a12)
    (hp : ∀ (r : Nat) (N' : Nat) (f' : Nat → gc_Op) (le' : Int32) (b7 b8 b9 b10 b11 : Nat → Int32), gc_L N' f' le' b7 b8 b9 b10 b11 → gc_MK N f N' f' r (gc_w (G i)) (fun E => gc_val E G i) (gc_mc (gc_k (G i))) → post (nI r) (nc, lv, le', fc, a1, a2, a3, a4, a5, a6, b7, b8, b9, b10, b11, a12, a13, a14, a15, a16, a17)) :
    wpX_traceNode post (nc, lv, le, fc, a1, a2, a3, a4, a5, a6, a7, a8, a9, a10, a11, a12, a13, a14, a15, a16, a17) (nI i) := by
  obtain ⟨_, hn, hG⟩ := hG
  have hroom := gc_TR_room hT
  obtain ⟨⟨x4, xs⟩, ok⟩ := hG i hi
  have hc : (nI i).toNatClampNeg = i := nI_clamp (by omega)
  have hin : vp_in (nI i) 12 := vp_in_nI (by omega) (by omega)
  have veq := fun E => gc_val_eq E ok
  rcases hGi : G i with ⟨k, a, b, m, w⟩
  rw [hGi] at x4 xs ok veq hp
  unfold wpX_traceNode
  dsimp only
  rw [hc, x4]
  obtain ⟨o1, o2, o3⟩ := ok
  dsimp only [gc_k, gc_a, gc_b, gc_n, gc_w, gc_sem] at xs o1 o2 o3 veq hp ⊢
  refine ⟨hin, nm_e ⟨hin, nm_e ?_⟩⟩
  -- parts
  have PA : gc_u1 k = true → ∃ r, vp_in (nI a) 12 ∧ a12 (nI a).toNatClampNeg = nI r ∧ r < N ∧ gc_w (f r) = gc_w (G a) ∧ ∀ E, gc_val E f r = gc_val E G a := by
    intro u
    have := o1 u
    obtain ⟨r, h⟩ := hT.1 a this
    exact ⟨r, vp_in_nI (by omega) (by omega), by rw [nI_clamp (by omega)]; exact h.1, h.2⟩
  have PB : gc_u2 k = true → ∃ r, vp_in (nI b) 12 ∧ a12 (nI b).toNatClampNeg = nI r ∧ r < N ∧ gc_w (f r) = gc_w (G b) ∧ ∀ E, gc_val E f r = gc_val E G b := by
    intro u
    have := o2 u
    obtain ⟨r, h⟩ := hT.1 b this
    exact ⟨r, vp_in_nI (by omega) (by omega), by rw [nI_clamp (by omega)]; exact h.1, h.2⟩
  -- a binary node
  have BI : k = 2 ∨ k = 3 ∨ k = 4 → m = 0 → ∀ r s, r < N → gc_w (f r) = gc_w (G a) → (∀ E, gc_val E f r = gc_val E G a) → s < N → gc_w (f s) = gc_w (G b) → (∀ E, gc_val E f s = gc_val E G b) →
      wpX_make post (nc, lv, le, fc, a1, a2, a3, a4, a5, a6, a7, a8, a9, a10, a11, a12, a13, a14, a15, a16, a17) (nI k) (nI r) (nI s) 0 (gc_B w) := by
    intro hk hm r s hr wr vr hs ws vs
    have u1 : gc_u1 k = true := by rcases hk with e | e | e <;> subst e <;> rfl
    have u2 : gc_u2 k = true := by rcases hk with e | e | e <;> subst e <;> rfl
    have q1 : nI r = gc_e1 (k, r, s, 0, w) := by unfold gc_e1; exact (if_pos u1).symm
    have q2 : nI s = gc_e2 (k, r, s, 0, w) := by unfold gc_e2; exact (if_pos u2).symm
    refine gc_make hL (by omega) (k, r, s, 0, w) ⟨(fun _ => hr), (fun _ => hs), ?_⟩ ?_ rfl q1 q2 rfl rfl
    · subst hm
      exact gc_OKk_cong o3 (fun _ => wr) (fun _ => ws)
    · intro r' N' f' le' b7 b8 b9 b10 b11 h mk
      refine hp r' N' f' le' b7 b8 b9 b10 b11 h (gc_MK_mono mk rfl (fun E => ?_) (fun _ => Nat.le_refl _))
      subst hm
      rw [veq E]
      show gc_sm E k 0 (gc_val E f r) (gc_val E f s) = _
      rw [vr E, vs E]
  -- a unary node
  have UN : gc_u1 k = true → gc_u2 k = false → ∀ r, r < N → gc_w (f r) = gc_w (G a) → (∀ E, gc_val E f r = gc_val E G a) →
      wpX_make post (nc, lv, le, fc, a1, a2, a3, a4, a5, a6, a7, a8, a9, a10, a11, a12, a13, a14, a15, a16, a17) (nI k) (nI r) (-1) m (gc_B w) := by
    intro u1 u2 r hr wr vr
    have u2' : ¬ gc_u2 k = true := by rw [u2]; exact Bool.false_ne_true
    have q1 : nI r = gc_e1 (k, r, b, m, w) := by unfold gc_e1; exact (if_pos u1).symm
    have q2 : (-1) = gc_e2 (k, r, b, m, w) := by unfold gc_e2; exact (if_neg u2').symm
    refine gc_make hL (by omega) (k, r, b, m, w) ⟨(fun _ => hr), (fun u => absurd u u2'), ?_⟩ ?_ rfl q1 q2 rfl rfl
    · exact gc_OKk_cong o3 (fun _ => wr) (fun u => absurd u u2')
    · intro r' N' f' le' b7 b8 b9 b10 b11 h mk
      refine hp r' N' f' le' b7 b8 b9 b10 b11 h (gc_MK_mono mk rfl (fun E => ?_) (fun _ => Nat.le_refl _))
      rw [veq E]
      show gc_sm E k m (gc_val E f r) (gc_val E f b) = _
      rw [vr E]
      exact gc_sm_y E m _ _ _ u2'
  have k15 := gc_k15 o3
  match k, k15 with
  | 0, _ =>
    obtain ⟨e1, e2⟩ := xs
    rw [e1, e2]
    refine br_t rfl ?_
    have hw : w = true := o3.1
    subst hw
    refine gc_make hL (by omega) (0, a, b, m, true) ⟨(fun u => absurd u Bool.false_ne_true), (fun u => absurd u Bool.false_ne_true), o3⟩ ?_ rfl rfl rfl rfl rfl
    intro r' N' f' le' b7 b8 b9 b10 b11 h mk
    refine hp r' N' f' le' b7 b8 b9 b10 b11 h (gc_MK_mono mk rfl (fun E => ?_) (fun _ => Nat.le_refl _))
    rw [veq E]
    simp only [gc_sem, gc_sm]
  | 1, _ =>
    obtain ⟨e1, e2⟩ := xs
    rw [e1, e2]
    refine br_f (by decide) (br_t rfl ?_)
    have hw : w = false := o3
    subst hw
    refine gc_make hL (by omega) (1, a, b, m, false) ⟨(fun u => absurd u Bool.false_ne_true), (fun u => absurd u Bool.false_ne_true), o3⟩ ?_ rfl rfl rfl rfl rfl
    intro r' N' f' le' b7 b8 b9 b10 b11 h mk
    refine hp r' N' f' le' b7 b8 b9 b10 b11 h (gc_MK_mono mk rfl (fun E => ?_) (fun _ => Nat.le_refl _))
    rw [veq E]
    simp only [gc_sem, gc_sm]
  | 2, _ =>
    obtain ⟨e1, e2, e3, e4⟩ := xs
    obtain ⟨r, va, ea, h1, h2, h3⟩ := PA rfl
    obtain ⟨s, vb, eb, h4, h5, h6⟩ := PB rfl
    rw [e1, e2, e3]
    refine br_f (by decide) (br_f (by decide) ⟨va, nm_r ea (br_f (by decide) ⟨hin, vb, hin, ?_⟩)⟩)
    rw [eb]
    exact BI (Or.inl rfl) e4 r s h1 h2 h3 h4 h5 h6
  | 3, _ =>
    obtain ⟨e1, e2, e3, e4⟩ := xs
    obtain ⟨r, va, ea, h1, h2, h3⟩ := PA rfl
    obtain ⟨s, vb, eb, h4, h5, h6⟩ := PB rfl
    rw [e1, e2, e3]
    refine br_f (by decide) (br_f (by decide) ⟨va, nm_r ea (br_f (by decide) ⟨hin, vb, hin, ?_⟩)⟩)
    rw [eb]
    exact BI (Or.inr (Or.inl rfl)) e4 r s h1 h2 h3 h4 h5 h6
  | 4, _ =>
    obtain ⟨e1, e2, e3, e4⟩ := xs
    obtain ⟨r, va, ea, h1, h2, h3⟩ := PA rfl
    obtain ⟨s, vb, eb, h4, h5, h6⟩ := PB rfl
    rw [e1, e2, e3]
    refine br_f (by decide) (br_f (by decide) ⟨va, nm_r ea (br_f (by decide) ⟨hin, vb, hin, ?_⟩)⟩)
    rw [eb]
    exact BI (Or.inr (Or.inr rfl)) e4 r s h1 h2 h3 h4 h5 h6
  | 5, _ =>
    obtain ⟨e1, e2, e3⟩ := xs
    obtain ⟨r, va, ea, h1, h2, h3⟩ := PA rfl
    rw [e1, e2]
    refine br_f (by decide) (br_f (by decide) ⟨va, nm_r ea (br_t (by decide) (br_f (by decide) (br_f (by decide) (br_f (by decide) ?_))))⟩)
    unfold wX_traceNode_132
    rw [hc, x4]
    subst e3
    exact ⟨hin, UN rfl rfl r h1 h2 h3⟩
  | 6, _ =>
    obtain ⟨e1, e2, e3⟩ := xs
    obtain ⟨r, va, ea, h1, h2, h3⟩ := PA rfl
    rw [e1, e2]
    refine br_f (by decide) (br_f (by decide) ⟨va, nm_r ea (br_t (by decide) (br_f (by decide) (br_t (by decide) ?_)))⟩)
    unfold wX_traceNode_132
    rw [hc, x4]
    subst e3
    exact ⟨hin, UN rfl rfl r h1 h2 h3⟩
  | 7, _ =>
    obtain ⟨e1, e2, e3⟩ := xs
    obtain ⟨r, va, ea, h1, h2, h3⟩ := PA rfl
    rw [e1, e2, e3]
    refine br_f (by decide) (br_f (by decide) ⟨va, nm_r ea (br_t (by decide) (br_f (by decide) (br_f (by decide) (br_t (by decide) ⟨hin, ?_⟩))))⟩)
    unfold wX_traceNode_132
    rw [hc, x4]
    exact ⟨hin, UN rfl rfl r h1 h2 h3⟩
  | 8, _ =>
    obtain ⟨e1, e2, e3⟩ := xs
    obtain ⟨r, va, ea, h1, h2, h3⟩ := PA rfl
    rw [e1, e2]
    refine br_f (by decide) (br_f (by decide) ⟨va, nm_r ea (br_t (by decide) (br_f (by decide) (br_f (by decide) (br_f (by decide) ?_))))⟩)
    unfold wX_traceNode_132
    rw [hc, x4]
    subst e3
    exact ⟨hin, UN rfl rfl r h1 h2 h3⟩
  | 9, _ => exact absurd xs id
  | 10, _ =>
    obtain ⟨e1, e2, e3⟩ := xs
    obtain ⟨r, va, ea, h1, h2, h3⟩ := PA rfl
    rw [e1, e2]
    refine br_f (by decide) (br_f (by decide) ⟨va, nm_r ea (br_t (by decide) (br_f (by decide) (br_f (by decide) (br_f (by decide) ?_))))⟩)
    unfold wX_traceNode_132
    rw [hc, x4]
    subst e3
    exact ⟨hin, UN rfl rfl r h1 h2 h3⟩
  | 11, _ => exact absurd xs id
  | 12, _ => exact absurd xs id
  | 13, _ =>
    obtain ⟨e1, e2, e3, e4⟩ := xs
    obtain ⟨r, va, ea, h1, h2, h3⟩ := PA rfl
    rw [e1, e2]
    refine br_f (by decide) (br_f (by decide) ⟨va, nm_r ea (br_t (by decide) (br_t (by decide) ⟨hin, ?_⟩))⟩)
    subst e3 e4
    refine gc_make hL (by omega) (13, r, r, 0, w) ⟨(fun _ => h1), (fun _ => h1), ?_⟩ ?_ rfl rfl rfl rfl rfl
    · exact ⟨h2.trans o3.1, h2.trans o3.1⟩
    · intro r' N' f' le' b7 b8 b9 b10 b11 h mk
      refine hp r' N' f' le' b7 b8 b9 b10 b11 h (gc_MK_mono mk rfl (fun E => ?_) (fun _ => Nat.le_refl _))
      rw [veq E]
      show gc_sm E 13 0 (gc_val E f r) (gc_val E f r) = _
      rw [h3 E]
  | 14, _ => exact absurd xs id
theorem gc_trace {post : St1 → Prop} {n i : Nat} {G : Nat → gc_Op} (hG : gc_G n G nc a1 a2 a3 a4) (hi : i < n)
    (hp : ∀ (N' : Nat) (f' : Nat → gc_Op) (le' : Int32) (b7 b8 b9 b10 b11 : Nat → Int32) (b12 : Nat → Int32), gc_L N' f' le' b7 b8 b9 b10 b11 → gc_TR G (i + 1) N' f' b12 → post (nc, lv, le', fc, a1, a2, a3, a4, a5, a6, b7, b8, b9, b10, b11, b12, a13, a14, a15, a16, a17)) :
    wpX_trace post (nc, lv, le, fc, a1, a2, a3, a4, a5, a6, a7, a8, a9, a10, a11, a12, a13, a14, a15, a16, a17) (nI i) := by
  unfold wpX_trace
  have hn := hG.2.1
  refine pk_loop (σ := Int32 × (Nat → Int32) × (Nat → Int32) × (Nat → Int32) × (Nat → Int32) × (Nat → Int32) × (Nat → Int32))
    (fun n j s => wX_trace_7 post (nI i) n (nI j) nc lv s.1 fc a1 a2 a3 a4 a5 a6 s.2.1 s.2.2.1 s.2.2.2.1 s.2.2.2.2.1 s.2.2.2.2.2.1 s.2.2.2.2.2.2 a13 a14 a15 a16 a17)
    (fun j s => ∃ N f, gc_L N f s.1 s.2.1 s.2.2.1 s.2.2.2.1 s.2.2.2.2.1 s.2.2.2.2.2.1 ∧ gc_TR G j N f s.2.2.2.2.2.2) (i + 1) 0 (0, a7, a8, a9, a10, a11, a12) (by omega) ?_ ?_ ?_
  · exact ⟨0, (fun _ => (0, 0, 0, 0, true)), ⟨rfl, by omega, fun i hi => absurd hi (by omega)⟩, fun j hj => absurd hj (by omega), fun t => Nat.le_refl _⟩
  · rintro n ⟨le', b7, b8, b9, b10, b11, b12⟩ ⟨N', f', h, t⟩
    exact pk_lt i (i + 1) (fun _ => hp N' f' le' b7 b8 b9 b10 b11 b12 h t) (fun z => absurd z (by omega))
  · rintro m j ⟨le', b7, b8, b9, b10, b11, b12⟩ hj ⟨N', f', h, t⟩ hw
    have hroom := gc_TR_room t
    refine pk_lt i j (fun z => absurd z (by omega)) (fun _ => ?_)
    refine gc_traceNode hG (by omega) h t ?_
    intro r N'' f'' le'' c7 c8 c9 c10 c11 h2 mk
    have hr := mk.2.1
    have hN2 := h2.2.1
    refine ⟨vp_in_nI (by omega) (by omega), nm_e (nm_r (nI_1 j) ?_)⟩
    rw [nI_clamp (show j < 2 ^ 31 by omega), gc_sh r (by omega)]
    refine hw (le'', c7, c8, c9, c10, c11, upd b12 j (nI r)) ⟨N'', f'', h2, fun q hq => ?_, fun s => ?_⟩
    · by_cases e : q = j
      · subst e
        exact ⟨r, pk_us, hr, mk.2.2.1, mk.2.2.2.1⟩
      · obtain ⟨p, p1, p2, p3, p4⟩ := t.1 q (by omega)
        refine ⟨p, by rw [← p1]; exact pk_un e, Nat.lt_of_lt_of_le p2 mk.1.1, by rw [mk.1.2 p p2]; exact p3, fun E => by rw [gc_val_ext E mk.1 p2]; exact p4 E⟩
    · have y1 := mk.2.2.2.2 s
      have y2 := t.2 s
      show _ ≤ gc_S _ G j + gc_mc (gc_k (G j)) s
      omega
end
end
section
section
/-! what an operation gets (its parts 0 and 2) against how the operation moves (parts 1 and 3): q picks part 1 or part 3 of the product -/
def gc_p (q : Bool) (g s : gc_H) : Int32 := if q then g.1 * s.2.2.2 + g.2.2.1 * s.2.1 else g.1 * s.2.1
def gc_P (q w : Bool) (g s : gc_V) : Int32 := if w then gc_p q (g 0) (s 0) + gc_p q (g 1) (s 1) + gc_p q (g 2) (s 2) + gc_p q (g 3) (s 3) else gc_p q (g 0) (s 0)
/-- what goes to an operation of width wt out of a value of width ww -/
def gc_fit (wt ww : Bool) (v : gc_V) : gc_V := if wt = false ∧ ww = true then fun _ => gc_s4 v else v
theorem gc_p_al (q : Bool) (g h s : gc_H) : gc_p q (gc_add g h) s = gc_p q g s + gc_p q h s := by
  cases q <;> simp only [gc_p, gc_add, if_true, if_false, Bool.false_eq_true] <;> grind
theorem gc_p_ar (q : Bool) (g s t : gc_H) : gc_p q g (gc_add s t) = gc_p q g s + gc_p q g t := by
  cases q <;> simp only [gc_p, gc_add, if_true, if_false, Bool.false_eq_true] <;> grind
theorem gc_p_sr (q : Bool) (g s t : gc_H) : gc_p q g (gc_sub s t) = gc_p q g s + gc_p q (gc_sub gc_z g) t := by
  cases q <;> simp only [gc_p, gc_sub, gc_z, if_true, if_false, Bool.false_eq_true] <;> grind
theorem gc_p_mr (q : Bool) (g s t : gc_H) : gc_p q g (gc_mul s t) = gc_p q (gc_mul g t) s + gc_p q (gc_mul g s) t := by
  cases q <;> simp only [gc_p, gc_mul, if_true, if_false, Bool.false_eq_true] <;> grind
theorem gc_p_zl (q : Bool) (s : gc_H) : gc_p q gc_z s = 0 := by
  cases q <;> simp only [gc_p, gc_z, if_true, if_false, Bool.false_eq_true] <;> grind
theorem gc_p_zr (q : Bool) (g : gc_H) : gc_p q g gc_z = 0 := by
  cases q <;> simp only [gc_p, gc_z, if_true, if_false, Bool.false_eq_true] <;> grind
theorem gc_p_cr (q : Bool) (g : gc_H) (n : Int32) : gc_p q g (n, 0, 0, 0) = 0 := by
  cases q <;> simp only [gc_p, if_true, if_false, Bool.false_eq_true] <;> grind
theorem gc_P_al (q w : Bool) (g h s : gc_V) : gc_P q w (fun c => gc_add (g c) (h c)) s = gc_P q w g s + gc_P q w h s := by
  cases w <;> simp only [gc_P, if_true, if_false, Bool.false_eq_true, gc_p_al] <;> grind
theorem gc_P_ar (q w : Bool) (g s t : gc_V) : gc_P q w g (fun c => gc_add (s c) (t c)) = gc_P q w g s + gc_P q w g t := by
  cases w <;> simp only [gc_P, if_true, if_false, Bool.false_eq_true, gc_p_ar] <;> grind
theorem gc_P_sr (q w : Bool) (g s t : gc_V) : gc_P q w g (fun c => gc_sub (s c) (t c)) = gc_P q w g s + gc_P q w (fun c => gc_sub gc_z (g c)) t := by
  cases w <;> simp only [gc_P, if_true, if_false, Bool.false_eq_true, gc_p_sr] <;> grind
theorem gc_P_mr (q w : Bool) (g s t : gc_V) : gc_P q w g (fun c => gc_mul (s c) (t c)) = gc_P q w (fun c => gc_mul (g c) (t c)) s + gc_P q w (fun c => gc_mul (g c) (s c)) t := by
  cases w <;> simp only [gc_P, if_true, if_false, Bool.false_eq_true, gc_p_mr] <;> grind
theorem gc_P_zl (q w : Bool) (s : gc_V) : gc_P q w (fun _ => gc_z) s = 0 := by
  cases w <;> simp only [gc_P, if_true, if_false, Bool.false_eq_true, gc_p_zl] <;> grind
theorem gc_P_cr (q w : Bool) (g : gc_V) (n : Nat → Int32) : gc_P q w g (fun c => (n c, 0, 0, 0)) = 0 := by
  cases w <;> simp only [gc_P, if_true, if_false, Bool.false_eq_true, gc_p_cr] <;> grind
/-- the components are added up for a number; a number goes to every component -/
theorem gc_P_fit (q : Bool) {w wa : Bool} (h : wa = true → w = true) (g x : gc_V) (fl : wa = false → ∀ c d, x c = x d) : gc_P q w g x = gc_P q wa (gc_fit wa w g) x := by
  cases wa
  · cases w
    · unfold gc_fit
      rw [if_neg (fun z => absurd z.2 Bool.false_ne_true)]
    · have f := fl rfl
      unfold gc_fit
      rw [if_pos ⟨rfl, rfl⟩]
      simp only [gc_P, if_true, if_false, Bool.false_eq_true, gc_s4, gc_p_al]
      rw [f 1 0, f 2 0, f 3 0]
  · have e := h rfl
    subst e
    unfold gc_fit
    rw [if_neg (fun z => absurd z.1.symm Bool.false_ne_true)]
theorem gc_P_gate (q w : Bool) (g a y : gc_V) : gc_P q w g (fun c => if 0 < (a c).1 then y c else gc_z) = gc_P q w (fun c => if 0 < (a c).1 then g c else gc_z) y := by
  have key : ∀ c, gc_p q (g c) (if 0 < (a c).1 then y c else gc_z) = gc_p q (if 0 < (a c).1 then g c else gc_z) (y c) := by
    intro c
    by_cases h : 0 < (a c).1
    · rw [if_pos h, if_pos h]
    · rw [if_neg h, if_neg h, gc_p_zl, gc_p_zr]
  cases w <;> simp only [gc_P, if_true, if_false, Bool.false_eq_true, key]
theorem gc_P_sum (q : Bool) (g x : gc_V) (fl : ∀ c d, g c = g d) : gc_P q false g (fun _ => gc_s4 x) = gc_P q true g x := by
  simp only [gc_P, if_true, if_false, Bool.false_eq_true, gc_s4, gc_p_ar]
  rw [fl 1 0, fl 2 0, fl 3 0]
theorem gc_P_turn (q : Bool) (g x : gc_V) {n : Nat} (h0 : 0 < n) (h : n < 4) : gc_P q true g (fun c => x ((c + n) % 4)) = gc_P q true (fun c => g ((c + (4 - n)) % 4)) x := by
  match n, h0, h with
  | 1, _, _ =>
    show gc_p q (g 0) (x 1) + gc_p q (g 1) (x 2) + gc_p q (g 2) (x 3) + gc_p q (g 3) (x 0) = gc_p q (g 3) (x 0) + gc_p q (g 0) (x 1) + gc_p q (g 1) (x 2) + gc_p q (g 2) (x 3)
    grind
  | 2, _, _ =>
    show gc_p q (g 0) (x 2) + gc_p q (g 1) (x 3) + gc_p q (g 2) (x 0) + gc_p q (g 3) (x 1) = gc_p q (g 2) (x 0) + gc_p q (g 3) (x 1) + gc_p q (g 0) (x 2) + gc_p q (g 1) (x 3)
    grind
  | 3, _, _ =>
    show gc_p q (g 0) (x 3) + gc_p q (g 1) (x 0) + gc_p q (g 2) (x 1) + gc_p q (g 3) (x 2) = gc_p q (g 1) (x 0) + gc_p q (g 2) (x 1) + gc_p q (g 3) (x 2) + gc_p q (g 0) (x 3)
    grind
theorem gc_P_pick (q : Bool) (g x : gc_V) {n : Nat} (h : n < 4) : gc_P q false g (fun _ => x n) = gc_P q true (fun c => if c = n then g 0 else gc_z) x := by
  match n, h with
  | 0, _ => simp [gc_P, gc_p_zl]
  | 1, _ => simp [gc_P, gc_p_zl]
  | 2, _ => simp [gc_P, gc_p_zl]
  | 3, _ => simp [gc_P, gc_p_zl]
theorem gc_P_place (q : Bool) (g x : gc_V) {n : Nat} (h : n < 4) : gc_P q true g (fun c => if c = n then x 0 else gc_z) = gc_P q false (fun _ => g n) x := by
  match n, h with
  | 0, _ => simp [gc_P, gc_p_zr]
  | 1, _ => simp [gc_P, gc_p_zr]
  | 2, _ => simp [gc_P, gc_p_zr]
  | 3, _ => simp [gc_P, gc_p_zr]
theorem gc_P_run (q : Bool) (g x : gc_V) : gc_P q true g (gc_run x) = gc_P q true (gc_rub g) x := by
  simp only [gc_P, if_true, gc_run, gc_rub, gc_p_ar, gc_p_al]
  grind
theorem gc_P_rub (q : Bool) (g x : gc_V) : gc_P q true g (gc_rub x) = gc_P q true (gc_run g) x := by
  simp only [gc_P, if_true, gc_run, gc_rub, gc_p_ar, gc_p_al]
  grind
/-- added up over the operations below m -/
def gc_PS (q : Bool) (w : Nat → Bool) (R s : Nat → gc_V) : Nat → Int32
  | 0 => 0
  | m + 1 => gc_PS q w R s m + gc_P q (w m) (R m) (s m)
theorem gc_PS_ext (q : Bool) {w w' : Nat → Bool} {R R' s s' : Nat → gc_V} : ∀ m, (∀ j, j < m → w' j = w j ∧ R' j = R j ∧ s' j = s j) → gc_PS q w' R' s' m = gc_PS q w R s m := by
  intro m
  induction m with
  | zero => exact fun _ => rfl
  | succ m ih =>
    intro h
    have e := h m (by omega)
    show gc_PS q w' R' s' m + _ = gc_PS q w R s m + _
    rw [ih (fun j hj => h j (by omega)), e.1, e.2.1, e.2.2]
theorem gc_PS_put (q : Bool) {w : Nat → Bool} {R R' s : Nat → gc_V} {to : Nat} {d : gc_V} (h1 : R' to = fun c => gc_add (R to c) (d c)) (h2 : ∀ j, j ≠ to → R' j = R j) : ∀ m, to < m → gc_PS q w R' s m = gc_PS q w R s m + gc_P q (w to) d (s to) := by
  intro m
  induction m with
  | zero => exact fun h => absurd h (by omega)
  | succ m ih =>
    intro h
    show gc_PS q w R' s m + gc_P q (w m) (R' m) (s m) = gc_PS q w R s m + gc_P q (w m) (R m) (s m) + _
    by_cases e : to = m
    · subst e
      rw [gc_PS_ext q (w := w) (R := R) (s := s) to (fun j hj => ⟨rfl, h2 j (by omega), rfl⟩), h1, gc_P_al]
      grind
    · rw [ih (by omega), h2 m (fun z => e z.symm)]
      grind
end
end
section
section
variable {nc lv le fc : Int32} {a1 a2 a3 a4 a5 a6 a7 a8 a9 a10 a11 a12 a13 a14 a15 a16 a17 : Nat → Int32}
variable {N : Nat} {f : Nat → gc_Op}
/-- an operation or none, as the program keeps it; of width w -/
def gc_opt (N : Nat) (f : Nat → gc_Op) (o : Option Nat) (x : Int32) (w : Bool) : Prop :=
  match o with
  | none => x = -1
  | some r => x = nI r ∧ r < N ∧ gc_w (f r) = w
def gc_rv (E : gc_E) (f : Nat → gc_Op) (o : Option Nat) : gc_V :=
  match o with
  | none => fun _ => gc_z
  | some r => gc_val E f r
theorem gc_opt_ext {N N' : Nat} {f f' : Nat → gc_Op} (h : gc_X N f N' f') {o : Option Nat} {x : Int32} {w : Bool} (ho : gc_opt N f o x w) : gc_opt N' f' o x w := by
  match o with
  | none => exact ho
  | some r =>
    obtain ⟨h1, h2, h3⟩ := ho
    exact ⟨h1, Nat.lt_of_lt_of_le h2 h.1, by rw [h.2 r h2]; exact h3⟩
theorem gc_rv_ext (E : gc_E) {N N' : Nat} {f f' : Nat → gc_Op} (h : gc_X N f N' f') {o : Option Nat} {x : Int32} {w : Bool} (ho : gc_opt N f o x w) : gc_rv E f' o = gc_rv E f o := by
  match o with
  | none => rfl
  | some r => exact gc_val_ext E h ho.2.1
theorem gc_room2 {N N' : Nat} {f f' : Nat → gc_Op} {r k : Nat} {w : Bool} {v : gc_E → gc_V} (m : gc_MK N f N' f' r w v (gc_mc k)) : N' ≤ N + 2 :=
  Nat.le_trans (gc_room m.2.2.2.2) (Nat.add_le_add_left (gc_mc_one k) N)
def gc_mis (t : Nat → Nat) : Nat := max (t 8) (max (t 5) (t 1))
/-- what giving costs -/
def gc_acc (t : Nat → Nat) (o : Option Nat) : Nat :=
  match o with
  | none => 0
  | some _ => gc_mc 2 t
theorem gc_give59 {post : St1 → Prop} (hL : gc_L N f le a7 a8 a9 a10 a11) (hN : N + 2 ≤ 450) {to gv : Nat} (hto : to < N) (hgv : gv < N) (hw : gc_w (f gv) = gc_w (f to)) {o : Option Nat} (ho : gc_opt N f o (a13 to) (gc_w (f to)))
    (hp : ∀ (r : Nat) (N' : Nat) (f' : Nat → gc_Op) (le' : Int32) (b7 b8 b9 b10 b11 : Nat → Int32), gc_L N' f' le' b7 b8 b9 b10 b11 → gc_MK N f N' f' r (gc_w (f to)) (fun E c => gc_add (gc_rv E f o c) (gc_val E f gv c)) (fun t => gc_acc t o) → post (nc, lv, le', fc, a1, a2, a3, a4, a5, a6, b7, b8, b9, b10, b11, a12, (upd a13 to (nI r)), a14, a15, a16, a17)) :
    wX_give_59 post (nI to) (nI gv) nc lv le fc a1 a2 a3 a4 a5 a6 a7 a8 a9 a10 a11 a12 a13 a14 a15 a16 a17 := by
  have hc : (nI to).toNatClampNeg = to := nI_clamp (by omega)
  have hin : vp_in (nI to) 450 := vp_in_nI (by omega) (by omega)
  obtain ⟨⟨_, _, _, _, r4⟩, _⟩ := hL.2.2 to hto
  unfold wX_give_59
  rw [hc, r4]
  match o, ho with
  | none, ho =>
    have e : a13 to = -1 := ho
    rw [e, gc_sh gv (by omega)]
    refine ⟨hin, br_t (by decide) ⟨hin, nm_e ?_⟩⟩
    refine hp gv N f le a7 a8 a9 a10 a11 hL (gc_MK_here hgv hw (fun E => ?_))
    funext c
    exact (gc_z_add _).symm
  | some p, ho =>
    obtain ⟨e, hp1, hp2⟩ := ho
    rw [e]
    refine ⟨hin, br_f (nI_pos (by omega)) ⟨hin, hin, ?_⟩⟩
    refine gc_make hL hN (2, p, gv, 0, gc_w (f to)) ⟨(fun _ => hp1), (fun _ => hgv), ?_⟩ ?_ rfl rfl rfl rfl rfl
    · show gc_w (f to) = (gc_w (f p) || gc_w (f gv))
      rw [hp2, hw, Bool.or_self]
    · intro r N' f' le' b7 b8 b9 b10 b11 h m
      have hr := m.2.1
      have hN2 := h.2.1
      refine ⟨hin, nm_r (by rw [gc_sh r (by omega)]) ?_⟩
      exact hp r N' f' le' b7 b8 b9 b10 b11 h m
theorem gc_give {post : St1 → Prop} (hL : gc_L N f le a7 a8 a9 a10 a11) (hN : N + 4 ≤ 450) {to wh : Nat} (hto : to < N) (hwh : wh < N) {o : Option Nat} (ho : gc_opt N f o (a13 to) (gc_w (f to)))
    (hp : ∀ (r : Nat) (N' : Nat) (f' : Nat → gc_Op) (le' : Int32) (b7 b8 b9 b10 b11 : Nat → Int32), gc_L N' f' le' b7 b8 b9 b10 b11 → gc_MK N f N' f' r (gc_w (f to)) (fun E c => gc_add (gc_rv E f o c) (gc_fit (gc_w (f to)) (gc_w (f wh)) (gc_val E f wh) c)) (fun t => (if gc_w (f to) = gc_w (f wh) then 0 else gc_mis t) + gc_acc t o) → post (nc, lv, le', fc, a1, a2, a3, a4, a5, a6, b7, b8, b9, b10, b11, a12, (upd a13 to (nI r)), a14, a15, a16, a17)) :
    wpX_give post (nc, lv, le, fc, a1, a2, a3, a4, a5, a6, a7, a8, a9, a10, a11, a12, a13, a14, a15, a16, a17) (nI to) (nI wh) := by
  have hct : (nI to).toNatClampNeg = to := nI_clamp (by omega)
  have hint : vp_in (nI to) 450 := vp_in_nI (by omega) (by omega)
  have hcw : (nI wh).toNatClampNeg = wh := nI_clamp (by omega)
  have hinw : vp_in (nI wh) 450 := vp_in_nI (by omega) (by omega)
  obtain ⟨⟨_, _, _, _, rt⟩, okt⟩ := hL.2.2 to hto
  obtain ⟨⟨_, _, _, _, rw'⟩, okw⟩ := hL.2.2 wh hwh
  -- the same width
  have SAME : gc_w (f to) = gc_w (f wh) → wX_give_59 post (nI to) (nI wh) nc lv le fc a1 a2 a3 a4 a5 a6 a7 a8 a9 a10 a11 a12 a13 a14 a15 a16 a17 := by
    intro e
    refine gc_give59 hL (by omega) hto hwh e.symm ho ?_
    intro r N' f' le' b7 b8 b9 b10 b11 h m
    refine hp r N' f' le' b7 b8 b9 b10 b11 h (gc_MK_mono m rfl (fun E => ?_) (fun t => ?_))
    · funext c
      have : gc_fit (gc_w (f to)) (gc_w (f wh)) (gc_val E f wh) = gc_val E f wh := by
        unfold gc_fit
        refine if_neg (fun z => ?_)
        rw [z.1, z.2] at e
        exact Bool.false_ne_true e
      rw [this]
    · rw [if_pos e, Nat.zero_add]
      exact Nat.le_refl _
  -- a number is spread or the components are added up first
  have NEXT : ∀ (g : Nat) (N' : Nat) (f' : Nat → gc_Op) (le' : Int32) (b7 b8 b9 b10 b11 : Nat → Int32), gc_L N' f' le' b7 b8 b9 b10 b11 → gc_MK N f N' f' g (gc_w (f to)) (fun E => gc_fit (gc_w (f to)) (gc_w (f wh)) (gc_val E f wh)) gc_mis → N' + 2 ≤ 450 → ¬ gc_w (f to) = gc_w (f wh) → wX_give_59 post (nI to) (nI g) nc lv le' fc a1 a2 a3 a4 a5 a6 b7 b8 b9 b10 b11 a12 a13 a14 a15 a16 a17 := by
    intro g N' f' le' b7 b8 b9 b10 b11 h m hroom e
    have et : f' to = f to := m.1.2 to hto
    refine gc_give59 h hroom (Nat.lt_of_lt_of_le hto m.1.1) m.2.1 (by rw [et]; exact m.2.2.1) (o := o) (by rw [et]; exact gc_opt_ext m.1 ho) ?_
    intro r N'' f'' le'' c7 c8 c9 c10 c11 h2 m2
    rw [et] at m2
    refine hp r N'' f'' le'' c7 c8 c9 c10 c11 h2 ⟨gc_X_trans m.1 m2.1, m2.2.1, m2.2.2.1, fun E => ?_, fun t => ?_⟩
    · rw [m2.2.2.2.1 E]
      funext c
      dsimp only
      rw [gc_rv_ext E m.1 ho, m.2.2.2.1 E]
    · have x1 := m.2.2.2.2 t
      have x2 := m2.2.2.2.2 t
      dsimp only at x2 ⊢
      rw [if_neg e]
      omega
  unfold wpX_give
  dsimp only
  rw [hct, hcw, rt, rw']
  refine ⟨hint, br_c (fun z => ?_) (fun z => ⟨hinw, br_c (fun y => ?_) (fun y => ?_)⟩)⟩
  · have wt : gc_w (f to) = false := gc_B0.mp z
    unfold wX_give_31
    rw [hct, hcw, rt, rw']
    refine ⟨hint, br_t z ⟨hinw, br_c (fun y => ?_) (fun y => ?_)⟩⟩
    · exact SAME (wt.trans (gc_B0.mp y).symm)
    · have ww : gc_w (f wh) = true := by
        cases hx : gc_w (f wh)
        · exact absurd (gc_B0.mpr hx) y
        · rfl
      refine gc_make hL (by omega) (5, wh, 0, 0, false) ⟨(fun _ => hwh), (fun u => absurd u Bool.false_ne_true), rfl, ww⟩ ?_ rfl rfl rfl rfl rfl
      intro r N' f' le' b7 b8 b9 b10 b11 h m
      have hroom := gc_room2 m
      refine NEXT r N' f' le' b7 b8 b9 b10 b11 h (gc_MK_mono m wt.symm (fun E => ?_) (fun t => ?_)) (by omega) (by rw [wt, ww]; exact Bool.false_ne_true)
      · rw [wt, ww]
        rfl
      · show max (t 5) (t 1) ≤ max (t 8) (max (t 5) (t 1))
        omega
  · have ww : gc_w (f wh) = false := gc_B0.mp y
    have wt : gc_w (f to) = true := by
      cases hx : gc_w (f to)
      · exact absurd (gc_B0.mpr hx) z
      · rfl
    refine gc_make hL (by omega) (8, wh, 0, 0, true) ⟨(fun _ => hwh), (fun u => absurd u Bool.false_ne_true), rfl, ww⟩ ?_ rfl rfl rfl rfl rfl
    intro r N' f' le' b7 b8 b9 b10 b11 h m
    have hroom := gc_room2 m
    have et : f' to = f to := m.1.2 to hto
    obtain ⟨⟨_, _, _, _, qt⟩, _⟩ := h.2.2 to (Nat.lt_of_lt_of_le hto m.1.1)
    have qt' : b11 to = 1 := by rw [qt, et, wt]; rfl
    show wX_give_31 post (nI to) (nI wh) (nI r) nc lv le' fc a1 a2 a3 a4 a5 a6 b7 b8 b9 b10 b11 a12 a13 a14 a15 a16 a17
    unfold wX_give_31
    rw [hct, qt']
    refine ⟨hint, br_f (by decide) ?_⟩
    refine NEXT r N' f' le' b7 b8 b9 b10 b11 h (gc_MK_mono m wt.symm (fun E => ?_) (fun t => ?_)) (by omega) (by rw [wt, ww]; exact fun z => Bool.false_ne_true z.symm)
    · rw [wt, ww]
      rfl
    · show t 8 ≤ max (t 8) (max (t 5) (t 1))
      omega
  · have ww : gc_w (f wh) = true := by
      cases hx : gc_w (f wh)
      · exact absurd (gc_B0.mpr hx) y
      · rfl
    have wt : gc_w (f to) = true := by
      cases hx : gc_w (f to)
      · exact absurd (gc_B0.mpr hx) z
      · rfl
    unfold wX_give_31
    rw [hct, rt]
    exact ⟨hint, br_f z (SAME (wt.trans ww.symm))⟩
theorem gc_giveInput {post : St1 → Prop} (hL : gc_L N f le a7 a8 a9 a10 a11) (hN : N + 2 ≤ 450) {k wh : Nat} (hk : k < 3) (hwh : wh < N) (hw : gc_w (f wh) = true) {o : Option Nat} (ho : gc_opt N f o (a14 k) true)
    (hp : ∀ (r : Nat) (N' : Nat) (f' : Nat → gc_Op) (le' : Int32) (b7 b8 b9 b10 b11 : Nat → Int32), gc_L N' f' le' b7 b8 b9 b10 b11 → gc_MK N f N' f' r true (fun E c => gc_add (gc_rv E f o c) (gc_val E f wh c)) (fun t => gc_acc t o) → post (nc, lv, le', fc, a1, a2, a3, a4, a5, a6, b7, b8, b9, b10, b11, a12, a13, (upd a14 k (nI r)), a15, a16, a17)) :
    wpX_giveInput post (nc, lv, le, fc, a1, a2, a3, a4, a5, a6, a7, a8, a9, a10, a11, a12, a13, a14, a15, a16, a17) (nI k) (nI wh) := by
  have hc : (nI k).toNatClampNeg = k := nI_clamp (by omega)
  have hin : vp_in (nI k) 3 := vp_in_nI (by omega) (by omega)
  unfold wpX_giveInput
  dsimp only
  rw [hc]
  match o, ho with
  | none, ho =>
    have e : a14 k = -1 := ho
    rw [e, gc_sh wh (by omega)]
    refine ⟨hin, br_t (by decide) ⟨hin, nm_e ?_⟩⟩
    refine hp wh N f le a7 a8 a9 a10 a11 hL (gc_MK_here hwh hw (fun E => ?_))
    funext c
    exact (gc_z_add _).symm
  | some p, ho =>
    obtain ⟨e, hp1, hp2⟩ := ho
    rw [e]
    refine ⟨hin, br_f (nI_pos (by omega)) ⟨hin, ?_⟩⟩
    refine gc_make hL hN (2, p, wh, 0, true) ⟨(fun _ => hp1), (fun _ => hwh), ?_⟩ ?_ rfl rfl rfl rfl rfl
    · show true = (gc_w (f p) || gc_w (f wh))
      rw [hp2, hw]
      rfl
    · intro r N' f' le' b7 b8 b9 b10 b11 h m
      have hr := m.2.1
      have hN2 := h.2.1
      refine ⟨hin, nm_r (by rw [gc_sh r (by omega)]) ?_⟩
      exact hp r N' f' le' b7 b8 b9 b10 b11 h m
end
end
section
section
variable {nc lv le fc : Int32} {a1 a2 a3 a4 a5 a6 a7 a8 a9 a10 a11 a12 a13 a14 a15 a16 a17 : Nat → Int32}
variable {N : Nat} {f : Nat → gc_Op}
/-- an operation of the list, its width and its value -/
def gc_is (N : Nat) (f : Nat → gc_Op) (i : Nat) (w : Bool) (v : gc_E → gc_V) : Prop := i < N ∧ gc_w (f i) = w ∧ ∀ E, gc_val E f i = v E
theorem gc_is_ext {N N' : Nat} {f f' : Nat → gc_Op} (h : gc_X N f N' f') {i : Nat} {w : Bool} {v : gc_E → gc_V} (hi : gc_is N f i w v) : gc_is N' f' i w v :=
  ⟨Nat.lt_of_lt_of_le hi.1 h.1, by rw [h.2 i hi.1]; exact hi.2.1, fun E => (gc_val_ext E h hi.1).trans (hi.2.2 E)⟩
/-- how many operations below m have got something -/
def gc_cnt (g : Nat → Option Nat) : Nat → Nat
  | 0 => 0
  | m + 1 => gc_cnt g m + if (g m).isSome then 1 else 0
/-- what is kept while derivatives are passed on: g for the operations below m, h for the inputs -/
def gc_ST (m N : Nat) (f : Nat → gc_Op) (g h : Nat → Option Nat) (a13 a14 : Nat → Int32) : Prop :=
  m ≤ N ∧ (∀ j, j < m → gc_opt N f (g j) (a13 j) (gc_w (f j))) ∧ ∀ k, k < 3 → gc_opt N f (h k) (a14 k) true
def gc_inp (E : gc_E) (k : Nat) : gc_V := fun c => (E.1 k c, E.2.2.1 k c, E.2.2.2 k c, 0)
def gc_T (q : Bool) (E : gc_E) (f : Nat → gc_Op) (m : Nat) (g h : Nat → Option Nat) : Int32 :=
  gc_PS q (fun _ => true) (fun k => gc_rv E f (h k)) (gc_inp E) 3 + gc_PS q (fun j => gc_w (f j)) (fun j => gc_rv E f (g j)) (fun j => gc_val E f j) m
/-- a step: the list is longer, the total grows by d, the weights by c -/
def gc_TX (m N : Nat) (f : Nat → gc_Op) (g h : Nat → Option Nat) (N' : Nat) (f' : Nat → gc_Op) (g' h' : Nat → Option Nat) (d : gc_E → Bool → Int32) (c : (Nat → Nat) → Nat → Nat) : Prop :=
  gc_X N f N' f' ∧ (∀ E q, gc_T q E f' m g' h' = gc_T q E f m g h + d E q) ∧ ∀ t α, gc_S t f' N' + α * gc_cnt g' m ≤ gc_S t f N + α * gc_cnt g m + c t α
theorem gc_TX_trans {m N N' N'' : Nat} {f f' f'' : Nat → gc_Op} {g h g' h' g'' h'' : Nat → Option Nat} {d d' : gc_E → Bool → Int32} {c c' : (Nat → Nat) → Nat → Nat}
    (p : gc_TX m N f g h N' f' g' h' d c) (q : gc_TX m N' f' g' h' N'' f'' g'' h'' d' c') : gc_TX m N f g h N'' f'' g'' h'' (fun E b => d E b + d' E b) (fun t α => c t α + c' t α) := by
  refine ⟨gc_X_trans p.1 q.1, fun E b => ?_, fun t α => ?_⟩
  · rw [q.2.1 E b, p.2.1 E b, Int32.add_assoc]
  · have h1 := p.2.2 t α
    have h2 := q.2.2 t α
    dsimp only
    omega
theorem gc_TX_mono {m N N' : Nat} {f f' : Nat → gc_Op} {g h g' h' : Nat → Option Nat} {d d' : gc_E → Bool → Int32} {c c' : (Nat → Nat) → Nat → Nat}
    (p : gc_TX m N f g h N' f' g' h' d c) (hd : ∀ E q, d E q = d' E q) (hc : ∀ t α, c t α ≤ c' t α) : gc_TX m N f g h N' f' g' h' d' c' :=
  ⟨p.1, fun E q => by rw [p.2.1 E q, hd E q], fun t α => Nat.le_trans (p.2.2 t α) (Nat.add_le_add_left (hc t α) _)⟩
theorem gc_ST_ext {m N N' : Nat} {f f' : Nat → gc_Op} {g h : Nat → Option Nat} {x y : Nat → Int32} (p : gc_X N f N' f') (s : gc_ST m N f g h x y) : gc_ST m N' f' g h x y :=
  ⟨Nat.le_trans s.1 p.1, fun j hj => by rw [p.2 j (Nat.lt_of_lt_of_le hj s.1)]; exact gc_opt_ext p (s.2.1 j hj), fun k hk => gc_opt_ext p (s.2.2 k hk)⟩
theorem gc_T_ext {m N N' : Nat} {f f' : Nat → gc_Op} {g h : Nat → Option Nat} {x y : Nat → Int32} (p : gc_X N f N' f') (s : gc_ST m N f g h x y) (q : Bool) (E : gc_E) : gc_T q E f' m g h = gc_T q E f m g h := by
  unfold gc_T
  rw [gc_PS_ext q (w := fun _ => true) (R := fun k => gc_rv E f (h k)) (s := gc_inp E) 3 (fun k hk => ⟨rfl, gc_rv_ext E p (s.2.2 k hk), rfl⟩),
    gc_PS_ext q (w := fun j => gc_w (f j)) (R := fun j => gc_rv E f (g j)) (s := fun j => gc_val E f j) m
      (fun j hj => ⟨by rw [p.2 j (Nat.lt_of_lt_of_le hj s.1)], gc_rv_ext E p (s.2.1 j hj), gc_val_ext E p (Nat.lt_of_lt_of_le hj s.1)⟩)]
/-- only the list grows -/
theorem gc_TX_list {m N' : Nat} {f' : Nat → gc_Op} {g h : Nat → Option Nat} {x y : Nat → Int32} {c : (Nat → Nat) → Nat} (p : gc_X N f N' f') (s : gc_ST m N f g h x y) (hc : ∀ t, gc_S t f' N' ≤ gc_S t f N + c t) :
    gc_TX m N f g h N' f' g h (fun _ _ => 0) (fun t _ => c t) :=
  ⟨p, fun E q => by rw [gc_T_ext p s q E]; exact (Int32.add_zero _).symm, fun t α => by have := hc t; dsimp only; omega⟩
def gc_gput (g : Nat → Option Nat) (to r : Nat) : Nat → Option Nat := fun j => if j = to then some r else g j
theorem gc_cnt_put (g : Nat → Option Nat) (to r : Nat) : ∀ m, gc_cnt (gc_gput g to r) m + (if to < m ∧ (g to).isSome then 1 else 0) = gc_cnt g m + if to < m then 1 else 0 := by
  intro m
  induction m with
  | zero => rfl
  | succ m ih =>
    show gc_cnt (gc_gput g to r) m + (if (gc_gput g to r m).isSome then 1 else 0) + _ = gc_cnt g m + (if (g m).isSome then 1 else 0) + _
    by_cases e : to = m
    · subst e
      have e1 : gc_gput g to r to = some r := if_pos rfl
      have i1 : (if (some r).isSome = true then 1 else 0) = 1 := rfl
      rw [e1, i1]
      have n1 : ¬ (to < to ∧ (g to).isSome = true) := fun z => absurd z.1 (by omega)
      have n2 : ¬ to < to := by omega
      rw [if_neg n1, if_neg n2] at ih
      rw [if_pos (show to < to + 1 by omega)]
      by_cases hs : (g to).isSome = true
      · rw [if_pos hs, if_pos ⟨show to < to + 1 by omega, hs⟩]
        omega
      · rw [if_neg hs, if_neg (fun z => hs z.2)]
        omega
    · have e1 : gc_gput g to r m = g m := if_neg (fun z => e z.symm)
      have c1 : to < m + 1 ↔ to < m := ⟨fun z => by omega, fun z => by omega⟩
      rw [e1]
      simp only [c1]
      omega
theorem gc_T_put {m N N' : Nat} {f f' : Nat → gc_Op} {g h : Nat → Option Nat} {x y : Nat → Int32} (p : gc_X N f N' f') (s : gc_ST m N f g h x y) {to r : Nat} (hto : to < m) {dv : gc_V} (q : Bool) (E : gc_E)
    (hv : gc_val E f' r = fun c => gc_add (gc_rv E f (g to) c) (dv c)) : gc_T q E f' m (gc_gput g to r) h = gc_T q E f m g h + gc_P q (gc_w (f to)) dv (gc_val E f to) := by
  rw [← gc_T_ext p s q E]
  unfold gc_T
  have e : gc_PS q (fun j => gc_w (f' j)) (fun j => gc_rv E f' (gc_gput g to r j)) (fun j => gc_val E f' j) m = gc_PS q (fun j => gc_w (f' j)) (fun j => gc_rv E f' (g j)) (fun j => gc_val E f' j) m + gc_P q (gc_w (f' to)) dv (gc_val E f' to) := by
    refine gc_PS_put q (w := fun j => gc_w (f' j)) (R := fun j => gc_rv E f' (g j)) (R' := fun j => gc_rv E f' (gc_gput g to r j)) (s := fun j => gc_val E f' j) (to := to) (d := dv) ?_ (fun j hj => ?_) m hto
    · show gc_rv E f' (if to = to then some r else g to) = _
      rw [if_pos rfl]
      show gc_val E f' r = _
      rw [hv]
      funext c
      rw [gc_rv_ext E p (s.2.1 to hto)]
    · show gc_rv E f' (if j = to then some r else g j) = _
      rw [if_neg hj]
  rw [e, p.2 to (Nat.lt_of_lt_of_le hto s.1), gc_val_ext E p (Nat.lt_of_lt_of_le hto s.1), Int32.add_assoc]
theorem gc_T_in {m N N' : Nat} {f f' : Nat → gc_Op} {g h : Nat → Option Nat} {x y : Nat → Int32} (p : gc_X N f N' f') (s : gc_ST m N f g h x y) {k r : Nat} (hk : k < 3) {dv : gc_V} (q : Bool) (E : gc_E)
    (hv : gc_val E f' r = fun c => gc_add (gc_rv E f (h k) c) (dv c)) : gc_T q E f' m g (gc_gput h k r) = gc_T q E f m g h + gc_P q true dv (gc_inp E k) := by
  rw [← gc_T_ext p s q E]
  unfold gc_T
  have e : gc_PS q (fun _ => true) (fun j => gc_rv E f' (gc_gput h k r j)) (gc_inp E) 3 = gc_PS q (fun _ => true) (fun j => gc_rv E f' (h j)) (gc_inp E) 3 + gc_P q true dv (gc_inp E k) := by
    refine gc_PS_put q (w := fun _ => true) (R := fun j => gc_rv E f' (h j)) (R' := fun j => gc_rv E f' (gc_gput h k r j)) (s := gc_inp E) (to := k) (d := dv) ?_ (fun j hj => ?_) 3 hk
    · show gc_rv E f' (if k = k then some r else h k) = _
      rw [if_pos rfl]
      show gc_val E f' r = _
      rw [hv]
      funext c
      rw [gc_rv_ext E p (s.2.2 k hk)]
    · show gc_rv E f' (if j = k then some r else h j) = _
      rw [if_neg hj]
  rw [e]
  grind
def gc_A (t : Nat → Nat) (α : Nat) : Nat := max (gc_mc 2 t) α
theorem gc_giveT {post : St1 → Prop} (hL : gc_L N f le a7 a8 a9 a10 a11) (hN : N + 4 ≤ 450) {m : Nat} {g h : Nat → Option Nat} (hS : gc_ST m N f g h a13 a14) {to wh : Nat} {wt ww : Bool} {tv gv : gc_E → gc_V} (htm : to < m) (hto : gc_is N f to wt tv) (hwh : gc_is N f wh ww gv)
    (hp : ∀ (N' : Nat) (f' : Nat → gc_Op) (le' : Int32) (b7 b8 b9 b10 b11 : Nat → Int32) (g' : Nat → Option Nat) (b13 : Nat → Int32), gc_L N' f' le' b7 b8 b9 b10 b11 → gc_ST m N' f' g' h b13 a14 → gc_TX m N f g h N' f' g' h (fun E q => gc_P q wt (gc_fit wt ww (gv E)) (tv E)) (fun t α => (if wt = ww then 0 else gc_mis t) + gc_A t α) → N' ≤ N + 2 → post (nc, lv, le', fc, a1, a2, a3, a4, a5, a6, b7, b8, b9, b10, b11, a12, b13, a14, a15, a16, a17)) :
    wpX_give post (nc, lv, le, fc, a1, a2, a3, a4, a5, a6, a7, a8, a9, a10, a11, a12, a13, a14, a15, a16, a17) (nI to) (nI wh) := by
  obtain ⟨t1, t2, t3⟩ := hto
  obtain ⟨w1, w2, w3⟩ := hwh
  subst t2 w2
  refine gc_give hL hN t1 w1 (hS.2.1 to htm) ?_
  intro r N' f' le' b7 b8 b9 b10 b11 h2 mk
  refine hp N' f' le' b7 b8 b9 b10 b11 (gc_gput g to r) _ h2 ⟨Nat.le_trans hS.1 mk.1.1, fun j hj => ?_, fun k hk => gc_opt_ext mk.1 (hS.2.2 k hk)⟩ ⟨mk.1, fun E q => ?_, fun t α => ?_⟩ ?_
  · by_cases e : j = to
    · subst e
      show gc_opt N' f' (if j = j then some r else g j) _ _
      rw [if_pos rfl, pk_us]
      exact ⟨rfl, mk.2.1, by rw [mk.2.2.1, mk.1.2 j t1]⟩
    · show gc_opt N' f' (if j = to then some r else g j) _ _
      rw [if_neg e, pk_un e, mk.1.2 j (Nat.lt_of_lt_of_le hj hS.1)]
      exact gc_opt_ext mk.1 (hS.2.1 j hj)
  · rw [gc_T_put mk.1 hS htm (dv := gc_fit (gc_w (f to)) (gc_w (f wh)) (gc_val E f wh)) q E (mk.2.2.2.1 E), w3 E, t3 E]
  · have c1 := mk.2.2.2.2 t
    have c2 := gc_cnt_put g to r m
    rw [if_pos htm] at c2
    dsimp only at c1 ⊢
    unfold gc_A
    cases hg : g to with
    | none =>
      rw [hg] at c1 c2
      rw [if_neg (fun z => absurd z.2 (by decide))] at c2
      have c3 : gc_acc t none = 0 := rfl
      rw [c3] at c1
      have c4 : gc_cnt (gc_gput g to r) m = gc_cnt g m + 1 := by omega
      rw [c4, Nat.mul_add, Nat.mul_one]
      omega
    | some s =>
      rw [hg] at c1 c2
      rw [if_pos ⟨htm, rfl⟩] at c2
      have c3 : gc_acc t (some s) = gc_mc 2 t := rfl
      rw [c3] at c1
      have c4 : gc_cnt (gc_gput g to r) m = gc_cnt g m := by omega
      rw [c4]
      omega
  · have c1 := gc_room mk.2.2.2.2
    have c2 : (if gc_w (f to) = gc_w (f wh) then 0 else gc_mis (fun _ => 1)) ≤ 1 := by
      split
      · exact Nat.zero_le _
      · exact Nat.le_refl 1
    have c3 : gc_acc (fun _ => 1) (g to) ≤ 1 := by
      cases g to
      · exact Nat.zero_le _
      · exact Nat.le_refl 1
    omega
theorem gc_mk2 {post : Int32 → St1 → Prop} (hL : gc_L N f le a7 a8 a9 a10 a11) (hN : N + 2 ≤ 450) {m : Nat} {g h : Nat → Option Nat} (hS : gc_ST m N f g h a13 a14) (k : Nat) (u1 : gc_u1 k = true) (u2 : gc_u2 k = true) {a b : Nat} {wa wb w : Bool} {n : Int32} {va vb : gc_E → gc_V}
    (ha : gc_is N f a wa va) (hb : gc_is N f b wb vb) (ok : gc_OKk k wa wb w n)
    (hp : ∀ (r : Nat) (N' : Nat) (f' : Nat → gc_Op) (le' : Int32) (b7 b8 b9 b10 b11 : Nat → Int32), gc_L N' f' le' b7 b8 b9 b10 b11 → gc_ST m N' f' g h a13 a14 → gc_TX m N f g h N' f' g h (fun _ _ => 0) (fun t _ => gc_mc k t) → N' ≤ N + 2 → gc_is N' f' r w (fun E => gc_sm E k n (va E) (vb E)) → post (nI r) (nc, lv, le', fc, a1, a2, a3, a4, a5, a6, b7, b8, b9, b10, b11, a12, a13, a14, a15, a16, a17))
    {p0 p4 : Int32} (e0 : p0 = nI k) (e4 : p4 = gc_B w) : wpX_make post (nc, lv, le, fc, a1, a2, a3, a4, a5, a6, a7, a8, a9, a10, a11, a12, a13, a14, a15, a16, a17) p0 (nI a) (nI b) n p4 := by
  have q1 : nI a = gc_e1 (k, a, b, n, w) := by unfold gc_e1; exact (if_pos u1).symm
  have q2 : nI b = gc_e2 (k, a, b, n, w) := by unfold gc_e2; exact (if_pos u2).symm
  refine gc_make hL hN (k, a, b, n, w) ⟨(fun _ => ha.1), (fun _ => hb.1), ?_⟩ ?_ e0 q1 q2 rfl e4
  · show gc_OKk k (gc_w (f a)) (gc_w (f b)) w n
    rw [ha.2.1, hb.2.1]
    exact ok
  · intro r N' f' le' b7 b8 b9 b10 b11 h2 mk
    refine hp r N' f' le' b7 b8 b9 b10 b11 h2 (gc_ST_ext mk.1 hS) (gc_TX_list mk.1 hS mk.2.2.2.2) (gc_room2 mk) ⟨mk.2.1, mk.2.2.1, fun E => ?_⟩
    rw [mk.2.2.2.1 E]
    show gc_sm E k n (gc_val E f a) (gc_val E f b) = _
    rw [ha.2.2 E, hb.2.2 E]
theorem gc_mk1 {post : Int32 → St1 → Prop} (hL : gc_L N f le a7 a8 a9 a10 a11) (hN : N + 2 ≤ 450) {m : Nat} {g h : Nat → Option Nat} (hS : gc_ST m N f g h a13 a14) (k : Nat) (u1 : gc_u1 k = true) (u2 : gc_u2 k = false) {a : Nat} {wa w : Bool} {n : Int32} {va : gc_E → gc_V}
    (ha : gc_is N f a wa va) (ok : gc_OKk k wa wa w n) (vb : gc_E → gc_V)
    (hp : ∀ (r : Nat) (N' : Nat) (f' : Nat → gc_Op) (le' : Int32) (b7 b8 b9 b10 b11 : Nat → Int32), gc_L N' f' le' b7 b8 b9 b10 b11 → gc_ST m N' f' g h a13 a14 → gc_TX m N f g h N' f' g h (fun _ _ => 0) (fun t _ => gc_mc k t) → N' ≤ N + 2 → gc_is N' f' r w (fun E => gc_sm E k n (va E) (vb E)) → post (nI r) (nc, lv, le', fc, a1, a2, a3, a4, a5, a6, b7, b8, b9, b10, b11, a12, a13, a14, a15, a16, a17))
    {p0 p4 : Int32} (e0 : p0 = nI k) (e4 : p4 = gc_B w) : wpX_make post (nc, lv, le, fc, a1, a2, a3, a4, a5, a6, a7, a8, a9, a10, a11, a12, a13, a14, a15, a16, a17) p0 (nI a) (-1) n p4 := by
  have u2' : ¬ gc_u2 k = true := by rw [u2]; exact Bool.false_ne_true
  have q1 : nI a = gc_e1 (k, a, a, n, w) := by unfold gc_e1; exact (if_pos u1).symm
  have q2 : (-1) = gc_e2 (k, a, a, n, w) := by unfold gc_e2; exact (if_neg u2').symm
  refine gc_make hL hN (k, a, a, n, w) ⟨(fun _ => ha.1), (fun _ => ha.1), ?_⟩ ?_ e0 q1 q2 rfl e4
  · show gc_OKk k (gc_w (f a)) (gc_w (f a)) w n
    rw [ha.2.1]
    exact ok
  · intro r N' f' le' b7 b8 b9 b10 b11 h2 mk
    refine hp r N' f' le' b7 b8 b9 b10 b11 h2 (gc_ST_ext mk.1 hS) (gc_TX_list mk.1 hS mk.2.2.2.2) (gc_room2 mk) ⟨mk.2.1, mk.2.2.1, fun E => ?_⟩
    rw [mk.2.2.2.1 E]
    show gc_sm E k n (gc_val E f a) (gc_val E f a) = _
    rw [ha.2.2 E]
    exact gc_sm_y E n _ _ _ u2'
theorem gc_zeroT {post : Int32 → St1 → Prop} (hL : gc_L N f le a7 a8 a9 a10 a11) (hN : N + 2 ≤ 450) {m : Nat} {g h : Nat → Option Nat} (hS : gc_ST m N f g h a13 a14) (w : Bool)
    (hp : ∀ (r : Nat) (N' : Nat) (f' : Nat → gc_Op) (le' : Int32) (b7 b8 b9 b10 b11 : Nat → Int32), gc_L N' f' le' b7 b8 b9 b10 b11 → gc_ST m N' f' g h a13 a14 → gc_TX m N f g h N' f' g h (fun _ _ => 0) (fun t _ => t 1 + t 8) → N' ≤ N + 2 → gc_is N' f' r w (fun _ _ => gc_z) → post (nI r) (nc, lv, le', fc, a1, a2, a3, a4, a5, a6, b7, b8, b9, b10, b11, a12, a13, a14, a15, a16, a17)) :
    wpX_zero post (nc, lv, le, fc, a1, a2, a3, a4, a5, a6, a7, a8, a9, a10, a11, a12, a13, a14, a15, a16, a17) (gc_B w) := by
  refine gc_zero hL hN w ?_
  intro r N' f' le' b7 b8 b9 b10 b11 h2 mk
  have c : ∀ t, gc_S t f' N' ≤ gc_S t f N + (t 1 + t 8) := by
    intro t
    have := mk.2.2.2.2 t
    dsimp only at this
    cases w <;> simp only [if_true, if_false, Bool.false_eq_true] at this <;> omega
  exact hp r N' f' le' b7 b8 b9 b10 b11 h2 (gc_ST_ext mk.1 hS) (gc_TX_list mk.1 hS c) (gc_room c) ⟨mk.2.1, mk.2.2.1, mk.2.2.2.1⟩
end
end
section
section
variable {nc lv le fc : Int32} {a1 a2 a3 a4 a5 a6 a7 a8 a9 a10 a11 a12 a13 a14 a15 a16 a17 : Nat → Int32}
variable {N : Nat} {f : Nat → gc_Op}
/-- what passing on costs, by kind -/
def gc_pc (t : Nat → Nat) (α : Nat) (k : Nat) : Nat :=
  match k with
  | 0 => gc_mc 2 t
  | 2 => gc_mis t + 2 * gc_A t α
  | 3 => t 1 + t 8 + gc_mc 3 t + gc_mis t + 2 * gc_A t α
  | 4 => 2 * gc_mc 4 t + gc_mis t + 2 * gc_A t α
  | 5 => gc_mis t + gc_A t α
  | 6 => gc_mc 6 t + gc_A t α
  | 7 => gc_mc 12 t + gc_A t α
  | 8 => gc_mis t + gc_A t α
  | 10 => gc_mc 14 t + gc_A t α
  | 12 => gc_mc 7 t + gc_A t α
  | 13 => gc_mc 13 t + gc_A t α
  | 14 => gc_mc 10 t + gc_A t α
  | _ => 0
theorem gc_mis2 {w wa wb : Bool} (h : w = (wa || wb)) (M : Nat) : (if wa = w then 0 else M) + (if wb = w then 0 else M) ≤ M := by
  subst h
  cases wa <;> cases wb <;> simp
theorem gc_inT {post : St1 → Prop} (hL : gc_L N f le a7 a8 a9 a10 a11) (hN : N + 2 ≤ 450) {m : Nat} {g h : Nat → Option Nat} (hS : gc_ST m N f g h a13 a14) {k wh : Nat} {gv : gc_E → gc_V} (hk : k < 3) (hwh : gc_is N f wh true gv)
    (hp : ∀ (N' : Nat) (f' : Nat → gc_Op) (le' : Int32) (b7 b8 b9 b10 b11 : Nat → Int32) (h' : Nat → Option Nat) (b14 : Nat → Int32), gc_L N' f' le' b7 b8 b9 b10 b11 → gc_ST m N' f' g h' a13 b14 → gc_TX m N f g h N' f' g h' (fun E q => gc_P q true (gv E) (gc_inp E k)) (fun t _ => gc_mc 2 t) → post (nc, lv, le', fc, a1, a2, a3, a4, a5, a6, b7, b8, b9, b10, b11, a12, a13, b14, a15, a16, a17)) :
    wpX_giveInput post (nc, lv, le, fc, a1, a2, a3, a4, a5, a6, a7, a8, a9, a10, a11, a12, a13, a14, a15, a16, a17) (nI k) (nI wh) := by
  obtain ⟨w1, w2, w3⟩ := hwh
  refine gc_giveInput hL hN hk w1 w2 (hS.2.2 k hk) ?_
  intro r N' f' le' b7 b8 b9 b10 b11 h2 mk
  have ha : ∀ t, gc_acc t (h k) ≤ gc_mc 2 t := by
    intro t
    cases h k
    · exact Nat.zero_le _
    · exact Nat.le_refl _
  refine hp N' f' le' b7 b8 b9 b10 b11 (gc_gput h k r) _ h2 ⟨Nat.le_trans hS.1 mk.1.1, fun j hj => ?_, fun j hj => ?_⟩ ⟨mk.1, fun E q => ?_, fun t α => ?_⟩
  · rw [mk.1.2 j (Nat.lt_of_lt_of_le hj hS.1)]
    exact gc_opt_ext mk.1 (hS.2.1 j hj)
  · by_cases e : j = k
    · subst e
      show gc_opt N' f' (if j = j then some r else h j) _ _
      rw [if_pos rfl, pk_us]
      exact ⟨rfl, mk.2.1, mk.2.2.1⟩
    · show gc_opt N' f' (if j = k then some r else h j) _ _
      rw [if_neg e, pk_un e]
      exact gc_opt_ext mk.1 (hS.2.2 j hj)
  · rw [gc_T_in mk.1 hS hk (dv := gc_val E f wh) q E (mk.2.2.2.1 E), w3 E]
  · have c1 := mk.2.2.2.2 t
    have c2 := ha t
    dsimp only at c1 ⊢
    omega
theorem gc_pass189 {post : St1 → Prop} (hL : gc_L N f le a7 a8 a9 a10 a11) (hN : N + 10 ≤ 450) {m : Nat} {g h : Nat → Option Nat} (hS : gc_ST m N f g h a13 a14) {got a b fA : Nat} {w wa wb : Bool} {gv va vb : gc_E → gc_V}
    (hgot : gc_is N f got w gv) (ha : gc_is N f a wa va) (hb : gc_is N f b wb vb) (ham : a < m) (hbm : b < m) (hfA : gc_is N f fA w (fun E => gc_sm E 4 0 (gv E) (vb E))) (hw : w = (wa || wb))
    (fla : wa = false → ∀ E c d, va E c = va E d) (flb : wb = false → ∀ E c d, vb E c = vb E d)
    (hp : ∀ (N' : Nat) (f' : Nat → gc_Op) (le' : Int32) (b7 b8 b9 b10 b11 : Nat → Int32) (g' : Nat → Option Nat) (b13 : Nat → Int32), gc_L N' f' le' b7 b8 b9 b10 b11 → gc_ST m N' f' g' h b13 a14 → gc_TX m N f g h N' f' g' h (fun E q => gc_P q w (gv E) (gc_sm E 4 0 (va E) (vb E))) (fun t α => gc_mc 4 t + gc_mis t + 2 * gc_A t α) → post (nc, lv, le', fc, a1, a2, a3, a4, a5, a6, b7, b8, b9, b10, b11, a12, b13, a14, a15, a16, a17))
    {fl : Int32} (hfl : fl = gc_B w) : wX_passOn_189 post (nI a) (nI b) (nI fA) fl 0 (nI a) (nI got) 4 nc lv le fc a1 a2 a3 a4 a5 a6 a7 a8 a9 a10 a11 a12 a13 a14 a15 a16 a17 := by
  unfold wX_passOn_189
  have hwa : wa = true → w = true := fun z => by rw [hw, z]; rfl
  have hwb : wb = true → w = true := fun z => by rw [hw, z, Bool.or_true]
  refine gc_mk2 hL (by omega) hS 4 rfl rfl hgot ha (w := w) ?_ ?_ rfl hfl
  · show w = (w || wa)
    cases wa
    · rw [Bool.or_false]
    · rw [hwa rfl]; rfl
  · intro r N' f' le' b7 b8 b9 b10 b11 h1 s1 x1 n1 i1
    refine gc_giveT h1 (by omega) s1 ham (gc_is_ext x1.1 ha) (gc_is_ext x1.1 hfA) ?_
    intro N2 f2 le2 c7 c8 c9 c10 c11 g2 c13 h2 s2 x2 n2
    refine gc_giveT h2 (by omega) s2 hbm (gc_is_ext x2.1 (gc_is_ext x1.1 hb)) (gc_is_ext x2.1 i1) ?_
    intro N3 f3 le3 d7 d8 d9 d10 d11 g3 d13 h3 s3 x3 n3
    refine hp N3 f3 le3 d7 d8 d9 d10 d11 g3 d13 h3 s3 (gc_TX_mono (gc_TX_trans x1 (gc_TX_trans x2 x3)) (fun E q => ?_) (fun t α => ?_))
    · show 0 + (gc_P q wa (gc_fit wa w (fun c => gc_mul (gv E c) (vb E c))) (va E) + gc_P q wb (gc_fit wb w (fun c => gc_mul (gv E c) (va E c))) (vb E)) = gc_P q w (gv E) (fun c => gc_mul (va E c) (vb E c))
      rw [gc_P_mr, Int32.zero_add, gc_P_fit q hwa _ (va E) (fun z => fla z E), gc_P_fit q hwb _ (vb E) (fun z => flb z E)]
    · have := gc_mis2 hw (gc_mis t)
      omega
theorem gc_pass154 {post : St1 → Prop} (hL : gc_L N f le a7 a8 a9 a10 a11) (hN : N + 12 ≤ 450) {m : Nat} {g h : Nat → Option Nat} (hS : gc_ST m N f g h a13 a14) {got a b : Nat} {w wa wb : Bool} {gv va vb : gc_E → gc_V}
    (hgot : gc_is N f got w gv) (ha : gc_is N f a wa va) (hb : gc_is N f b wb vb) (ham : a < m) (hbm : b < m) (hw : w = (wa || wb))
    (fla : wa = false → ∀ E c d, va E c = va E d) (flb : wb = false → ∀ E c d, vb E c = vb E d)
    (hp : ∀ (N' : Nat) (f' : Nat → gc_Op) (le' : Int32) (b7 b8 b9 b10 b11 : Nat → Int32) (g' : Nat → Option Nat) (b13 : Nat → Int32), gc_L N' f' le' b7 b8 b9 b10 b11 → gc_ST m N' f' g' h b13 a14 → gc_TX m N f g h N' f' g' h (fun E q => gc_P q w (gv E) (gc_sm E 4 0 (va E) (vb E))) (fun t α => 2 * gc_mc 4 t + gc_mis t + 2 * gc_A t α) → post (nc, lv, le', fc, a1, a2, a3, a4, a5, a6, b7, b8, b9, b10, b11, a12, b13, a14, a15, a16, a17))
    {fl : Int32} (hfl : fl = gc_B w) : wX_passOn_154 post (nI got) (nI a) (nI b) fl 0 (nI b) (nI got) 4 nc lv le fc a1 a2 a3 a4 a5 a6 a7 a8 a9 a10 a11 a12 a13 a14 a15 a16 a17 := by
  have hgin : vp_in (nI got) 450 := vp_in_nI (by have := hgot.1; omega) (by omega)
  have hain : vp_in (nI a) 450 := vp_in_nI (by have := ha.1; omega) (by omega)
  have hgc : (nI got).toNatClampNeg = got := nI_clamp (by have := hgot.1; omega)
  have hac : (nI a).toNatClampNeg = a := nI_clamp (by have := ha.1; omega)
  have hwb : wb = true → w = true := fun z => by rw [hw, z, Bool.or_true]
  unfold wX_passOn_154
  refine gc_mk2 hL (by omega) hS 4 rfl rfl hgot hb (w := w) ?_ ?_ rfl hfl
  · show w = (w || wb)
    cases wb
    · rw [Bool.or_false]
    · rw [hwb rfl]; rfl
  · intro r N' f' le' b7 b8 b9 b10 b11 h1 s1 x1 n1 i1
    have hg1 := gc_is_ext x1.1 hgot
    have ha1 := gc_is_ext x1.1 ha
    have rg : b11 got = gc_B w := by rw [((h1.2.2 got hg1.1).1).2.2.2.2, hg1.2.1]
    have ra : b11 a = gc_B wa := by rw [((h1.2.2 a ha1.1).1).2.2.2.2, ha1.2.1]
    have NEXT : wX_passOn_189 post (nI a) (nI b) (nI r) (gc_B w) 0 (nI a) (nI got) 4 nc lv le' fc a1 a2 a3 a4 a5 a6 b7 b8 b9 b10 b11 a12 a13 a14 a15 a16 a17 := by
      refine gc_pass189 h1 (by omega) s1 hg1 ha1 (gc_is_ext x1.1 hb) ham hbm i1 hw fla flb ?_ rfl
      intro N2 f2 le2 c7 c8 c9 c10 c11 g2 c13 h2 s2 x2
      refine hp N2 f2 le2 c7 c8 c9 c10 c11 g2 c13 h2 s2 (gc_TX_mono (gc_TX_trans x1 x2) (fun E q => Int32.zero_add _) (fun t α => ?_))
      omega
    show vp_in (nI got) 450 ∧ _
    refine ⟨hgin, ?_⟩
    rw [hgc, hac, rg, ra]
    cases hx : w with
    | false =>
      rw [hx] at NEXT
      have wa0 : wa = false := by
        rw [hw] at hx
        exact (Bool.or_eq_false_iff.mp hx).1
      exact br_t rfl ⟨hain, br_t (by rw [wa0]; rfl) NEXT⟩
    | true =>
      rw [hx] at NEXT
      exact br_f (by decide) NEXT
end
end
section
section
variable {nc lv le fc : Int32} {a1 a2 a3 a4 a5 a6 a7 a8 a9 a10 a11 a12 a13 a14 a15 a16 a17 : Nat → Int32}
variable {N : Nat} {f : Nat → gc_Op}
/-- one unary step: make, then give -/
theorem gc_uni {post : St1 → Prop} (hL : gc_L N f le a7 a8 a9 a10 a11) (hN : N + 8 ≤ 450) {m : Nat} {g h : Nat → Option Nat} (hS : gc_ST m N f g h a13 a14) (k : Nat) (u1 : gc_u1 k = true) (u2 : gc_u2 k = false) {a got : Nat} {w wa wg : Bool} {n : Int32} {va gv : gc_E → gc_V}
    (ha : gc_is N f a wa va) (ham : a < m) (hgot : gc_is N f got wg gv) (ok : gc_OKk k wg wg w n) (hww : w = wa)
    (hp : ∀ (N' : Nat) (f' : Nat → gc_Op) (le' : Int32) (b7 b8 b9 b10 b11 : Nat → Int32) (g' : Nat → Option Nat) (b13 : Nat → Int32), gc_L N' f' le' b7 b8 b9 b10 b11 → gc_ST m N' f' g' h b13 a14 → gc_TX m N f g h N' f' g' h (fun E q => gc_P q wa (gc_sm E k n (gv E) (gv E)) (va E)) (fun t α => gc_mc k t + gc_A t α) → post (nc, lv, le', fc, a1, a2, a3, a4, a5, a6, b7, b8, b9, b10, b11, a12, b13, a14, a15, a16, a17))
    {p0 p4 : Int32} (e0 : p0 = nI k) (e4 : p4 = gc_B w) :
    wpX_make (fun r u => wpX_give post u (nI a) r) (nc, lv, le, fc, a1, a2, a3, a4, a5, a6, a7, a8, a9, a10, a11, a12, a13, a14, a15, a16, a17) p0 (nI got) (-1) n p4 := by
  refine gc_mk1 hL (by omega) hS k u1 u2 hgot ok gv ?_ e0 e4
  intro r N' f' le' b7 b8 b9 b10 b11 h1 s1 x1 n1 i1
  refine gc_giveT h1 (by omega) s1 ham (gc_is_ext x1.1 ha) i1 ?_
  intro N2 f2 le2 c7 c8 c9 c10 c11 g2 c13 h2 s2 x2 n2
  refine hp N2 f2 le2 c7 c8 c9 c10 c11 g2 c13 h2 s2 (gc_TX_mono (gc_TX_trans x1 x2) (fun E q => ?_) (fun t α => ?_))
  · have e : gc_fit wa w (gc_sm E k n (gv E) (gv E)) = gc_sm E k n (gv E) (gv E) := by
      unfold gc_fit
      refine if_neg (fun z => ?_)
      rw [hww, z.1] at z
      exact Bool.false_ne_true z.2
    show 0 + gc_P q wa (gc_fit wa w (gc_sm E k n (gv E) (gv E))) (va E) = _
    rw [e, Int32.zero_add]
  · rw [if_pos hww.symm]
    omega
theorem gc_passOn {post : St1 → Prop} (hL : gc_L N f le a7 a8 a9 a10 a11) (hN : N + 16 ≤ 450) {id : Nat} {g h : Nat → Option Nat} (hS : gc_ST id N f g h a13 a14) (hid : id < N) {got : Nat} {gv : gc_E → gc_V} (hgot : gc_is N f got (gc_w (f id)) gv)
    (hp : ∀ (N' : Nat) (f' : Nat → gc_Op) (le' : Int32) (b7 b8 b9 b10 b11 : Nat → Int32) (g' h' : Nat → Option Nat) (b13 b14 : Nat → Int32), gc_L N' f' le' b7 b8 b9 b10 b11 → gc_ST id N' f' g' h' b13 b14 → gc_TX id N f g h N' f' g' h' (fun E q => gc_P q (gc_w (f id)) (gv E) (gc_val E f id)) (fun t α => gc_pc t α (gc_k (f id))) → post (nc, lv, le', fc, a1, a2, a3, a4, a5, a6, b7, b8, b9, b10, b11, a12, b13, b14, a15, a16, a17)) :
    wpX_passOn post (nc, lv, le, fc, a1, a2, a3, a4, a5, a6, a7, a8, a9, a10, a11, a12, a13, a14, a15, a16, a17) (nI id) (nI got) := by
  have hok : ∀ i, i < N → gc_OK f i (f i) := fun i hi => (hL.2.2 i hi).2
  have hc : (nI id).toNatClampNeg = id := nI_clamp (by omega)
  have hin : vp_in (nI id) 450 := vp_in_nI (by omega) (by omega)
  have hgc : (nI got).toNatClampNeg = got := nI_clamp (by have := hgot.1; omega)
  have hgin : vp_in (nI got) 450 := vp_in_nI (by have := hgot.1; omega) (by omega)
  obtain ⟨⟨r0, r1, r2, r3, r4⟩, ok⟩ := hL.2.2 id hid
  have rg : a11 got = gc_B (gc_w (f id)) := by rw [((hL.2.2 got hgot.1).1).2.2.2.2, hgot.2.1]
  have veq := fun E => gc_val_eq E ok
  unfold wpX_passOn
  dsimp only
  rw [hc, hgc, r0, r1, r2, r3, rg]
  clear r0 r1 r2 r3 r4
  rcases hf : f id with ⟨k, a, b, n, w⟩
  rw [hf] at ok veq hp hgot rg
  obtain ⟨o1, o2, o3⟩ := ok
  dsimp only [gc_k, gc_a, gc_b, gc_n, gc_w, gc_sem] at o1 o2 o3 veq hp hgot rg ⊢
  have k15 := gc_k15 o3
  have IA : gc_u1 k = true → gc_is N f a (f a).2.2.2.2 (fun E => gc_val E f a) := fun u => ⟨by have := o1 u; omega, rfl, fun _ => rfl⟩
  have IB : gc_u2 k = true → gc_is N f b (f b).2.2.2.2 (fun E => gc_val E f b) := fun u => ⟨by have := o2 u; omega, rfl, fun _ => rfl⟩
  have FA : gc_u1 k = true → (f a).2.2.2.2 = false → ∀ E c d, gc_val E f a c = gc_val E f a d := fun u z E => gc_flat E hok a (by have := o1 u; omega) z
  have FB : gc_u2 k = true → (f b).2.2.2.2 = false → ∀ E c d, gc_val E f b c = gc_val E f b d := fun u z E => gc_flat E hok b (by have := o2 u; omega) z
  have FG : w = false → ∀ E c d, gv E c = gv E d := fun z E c d => by rw [← hgot.2.2 E]; exact gc_flat E hok got hgot.1 (hgot.2.1.trans z) c d
  refine ⟨hin, nm_e ⟨hin, nm_e ⟨hin, nm_e ⟨hin, nm_e ?_⟩⟩⟩⟩
  match k, k15 with
  | 0, _ =>
    obtain ⟨hw, j, hj, hn⟩ := o3
    refine br_t rfl ?_
    subst hw hn
    refine gc_inT hL (by omega) hS hj hgot ?_
    intro N' f' le' b7 b8 b9 b10 b11 h' b14 h1 s1 x1
    refine hp N' f' le' b7 b8 b9 b10 b11 g h' a13 b14 h1 s1 (gc_TX_mono x1 (fun E q => ?_) (fun t α => Nat.le_refl _))
    rw [veq E]
    show gc_P q true (gv E) (gc_inp E j) = gc_P q true (gv E) (fun c => (E.1 (nI j).toNatClampNeg c, E.2.2.1 (nI j).toNatClampNeg c, E.2.2.2 (nI j).toNatClampNeg c, 0))
    rw [gc_clamp_lt (by omega)]
    rfl
  | 1, _ =>
    refine br_f (by decide) (br_f (by decide) (br_f (by decide) (br_f (by decide) (br_t rfl ?_))))
    refine hp N f le a7 a8 a9 a10 a11 g h a13 a14 hL hS ⟨gc_X_refl N f, fun E q => ?_, fun t α => Nat.le_add_right _ _⟩
    dsimp only
    rw [veq E]
    have : gc_P q w (gv E) (gc_sm E 1 n (gc_val E f a) (gc_val E f b)) = 0 := gc_P_cr q w (gv E) (fun _ => n)
    rw [this, Int32.add_zero]
  | 2, _ =>
    have hw : w = ((f a).2.2.2.2 || (f b).2.2.2.2) := o3
    have hwa : (f a).2.2.2.2 = true → w = true := fun z => by rw [hw, z]; rfl
    have hwb : (f b).2.2.2.2 = true → w = true := fun z => by rw [hw, z, Bool.or_true]
    refine br_f (by decide) (br_t rfl ?_)
    refine gc_giveT hL (by omega) hS (o1 rfl) (IA rfl) hgot ?_
    intro N' f' le' b7 b8 b9 b10 b11 g' b13 h1 s1 x1 n1
    refine gc_giveT h1 (by omega) s1 (o2 rfl) (gc_is_ext x1.1 (IB rfl)) (gc_is_ext x1.1 hgot) ?_
    intro N2 f2 le2 c7 c8 c9 c10 c11 g2 c13 h2 s2 x2 n2
    refine hp N2 f2 le2 c7 c8 c9 c10 c11 g2 h c13 a14 h2 s2 (gc_TX_mono (gc_TX_trans x1 x2) (fun E q => ?_) (fun t α => ?_))
    · rw [veq E]
      show _ = gc_P q w (gv E) (fun c => gc_add (gc_val E f a c) (gc_val E f b c))
      rw [gc_P_ar, gc_P_fit q hwa (gv E) (gc_val E f a) (fun z => FA rfl z E), gc_P_fit q hwb (gv E) (gc_val E f b) (fun z => FB rfl z E)]
    · have := gc_mis2 hw (gc_mis t)
      show _ ≤ gc_mis t + 2 * gc_A t α
      omega
  | 3, _ =>
    have hw : w = ((f a).2.2.2.2 || (f b).2.2.2.2) := o3
    have hwa : (f a).2.2.2.2 = true → w = true := fun z => by rw [hw, z]; rfl
    have hwb : (f b).2.2.2.2 = true → w = true := fun z => by rw [hw, z, Bool.or_true]
    refine br_f (by decide) (br_f (by decide) (br_t rfl ?_))
    refine gc_giveT hL (by omega) hS (o1 rfl) (IA rfl) hgot ?_
    intro N' f' le' b7 b8 b9 b10 b11 g' b13 h1 s1 x1 n1
    have hg1 := gc_is_ext x1.1 hgot
    have rg1 : b11 got = gc_B w := by rw [((h1.2.2 got hg1.1).1).2.2.2.2, hg1.2.1]
    show vp_in (nI got) 450 ∧ _
    refine ⟨hgin, ?_⟩
    show wpX_zero _ _ (b11 got)
    rw [rg1]
    refine gc_zeroT h1 (by omega) s1 w ?_
    intro z N2 f2 le2 c7 c8 c9 c10 c11 h2 s2 x2 n2 i2
    have hg2 := gc_is_ext x2.1 hg1
    have rg2 : c11 got = gc_B w := by rw [((h2.2.2 got hg2.1).1).2.2.2.2, hg2.2.1]
    show vp_in (nI got) 450 ∧ _
    refine ⟨hgin, ?_⟩
    show wpX_make _ _ _ _ _ _ (c11 got)
    rw [rg2]
    refine gc_mk2 h2 (by omega) s2 3 rfl rfl i2 hg2 (w := w) (by show w = (w || w); rw [Bool.or_self]) ?_ rfl rfl
    intro r N3 f3 le3 d7 d8 d9 d10 d11 h3 s3 x3 n3 i3
    refine gc_giveT h3 (by omega) s3 (o2 rfl) (gc_is_ext x3.1 (gc_is_ext x2.1 (gc_is_ext x1.1 (IB rfl)))) i3 ?_
    intro N4 f4 le4 e7 e8 e9 e10 e11 g4 e13 h4 s4 x4 n4
    refine hp N4 f4 le4 e7 e8 e9 e10 e11 g4 h e13 a14 h4 s4 (gc_TX_mono (gc_TX_trans x1 (gc_TX_trans x2 (gc_TX_trans x3 x4))) (fun E q => ?_) (fun t α => ?_))
    · rw [veq E]
      show _ + (0 + (0 + _)) = gc_P q w (gv E) (fun c => gc_sub (gc_val E f a c) (gc_val E f b c))
      rw [gc_P_sr, gc_P_fit q hwa (gv E) (gc_val E f a) (fun z => FA rfl z E), gc_P_fit q hwb (fun c => gc_sub gc_z (gv E c)) (gc_val E f b) (fun z => FB rfl z E), Int32.zero_add, Int32.zero_add]
      rfl
    · have := gc_mis2 hw (gc_mis t)
      show _ ≤ t 1 + t 8 + gc_mc 3 t + gc_mis t + 2 * gc_A t α
      omega
  | 4, _ =>
    have hw : w = ((f a).2.2.2.2 || (f b).2.2.2.2) := o3
    have hbc : (nI b).toNatClampNeg = b := nI_clamp (by have := o2 rfl; omega)
    have hbin : vp_in (nI b) 450 := vp_in_nI (by have := o2 rfl; omega) (by omega)
    have rb : a11 b = gc_B (f b).2.2.2.2 := by have t := (hL.2.2 b (by have := o2 rfl; omega)).1; exact t.2.2.2.2
    have M : wX_passOn_154 post (nI got) (nI a) (nI b) (gc_B w) 0 (nI b) (nI got) 4 nc lv le fc a1 a2 a3 a4 a5 a6 a7 a8 a9 a10 a11 a12 a13 a14 a15 a16 a17 := by
      refine gc_pass154 hL (by omega) hS hgot (IA rfl) (IB rfl) (o1 rfl) (o2 rfl) hw (FA rfl) (FB rfl) ?_ rfl
      intro N' f' le' b7 b8 b9 b10 b11 g' b13 h1 s1 x1
      refine hp N' f' le' b7 b8 b9 b10 b11 g' h b13 a14 h1 s1 (gc_TX_mono x1 (fun E q => ?_) (fun t α => Nat.le_refl _))
      rw [veq E]
      rfl
    refine br_f (by decide) (br_f (by decide) (br_f (by decide) (br_t rfl ⟨hgin, ?_⟩)))
    show (gc_B w = 0 → vp_in (nI b) 450 ∧ ((a11 (nI b).toNatClampNeg = 0 → wX_passOn_154 post (nI got) (nI a) (nI b) 0 0 (nI b) (nI got) 4 nc lv le fc a1 a2 a3 a4 a5 a6 a7 a8 a9 a10 a11 a12 a13 a14 a15 a16 a17) ∧ (¬ a11 (nI b).toNatClampNeg = 0 → wX_passOn_154 post (nI got) (nI a) (nI b) 1 0 (nI b) (nI got) 4 nc lv le fc a1 a2 a3 a4 a5 a6 a7 a8 a9 a10 a11 a12 a13 a14 a15 a16 a17))) ∧ (¬ gc_B w = 0 → wX_passOn_154 post (nI got) (nI a) (nI b) 1 0 (nI b) (nI got) 4 nc lv le fc a1 a2 a3 a4 a5 a6 a7 a8 a9 a10 a11 a12 a13 a14 a15 a16 a17)
    rw [hbc, rb]
    cases hx : w with
    | false =>
      rw [hx] at M
      have wb0 : (f b).2.2.2.2 = false := by
        rw [hw] at hx
        exact (Bool.or_eq_false_iff.mp hx).2
      exact br_t rfl ⟨hbin, br_t (by rw [wb0]; rfl) M⟩
    | true =>
      rw [hx] at M
      exact br_f (by decide) M
  | 5, _ =>
    obtain ⟨hw, hwa⟩ := o3
    refine br_f (by decide) (br_f (by decide) (br_f (by decide) (br_f (by decide) (br_f (by decide) (br_f (by decide) ?_)))))
    unfold wpX_passUnary
    refine br_f (by decide) (br_t rfl ?_)
    refine gc_giveT hL (by omega) hS (o1 rfl) (IA rfl) hgot ?_
    intro N' f' le' b7 b8 b9 b10 b11 g' b13 h1 s1 x1 n1
    refine hp N' f' le' b7 b8 b9 b10 b11 g' h b13 a14 h1 s1 (gc_TX_mono x1 (fun E q => ?_) (fun t α => ?_))
    · rw [veq E]
      have hwa' : (f a).2.2.2.2 = true := hwa
      rw [hwa', hw]
      exact (gc_P_sum q (gv E) (gc_val E f a) (FG hw E)).symm
    · show _ ≤ gc_mis t + gc_A t α
      split <;> omega
  | 6, _ =>
    obtain ⟨hw, hwa, j, hj0, hj, hn⟩ := o3
    have hwa' : (f a).2.2.2.2 = true := hwa
    subst hw hn
    refine br_f (by decide) (br_f (by decide) (br_f (by decide) (br_f (by decide) (br_f (by decide) (br_f (by decide) ?_)))))
    unfold wpX_passUnary
    refine br_f (by decide) (br_f (by decide) (br_f (by decide) (br_t rfl ?_)))
    have h4 : (4 : Int32) - nI j = nI (4 - j) := pk_sub (a := 4) (by omega)
    rw [h4]
    refine gc_uni hL (by omega) hS 6 rfl rfl (IA rfl) (o1 rfl) hgot ⟨rfl, rfl, 4 - j, by omega, by omega, rfl⟩ hwa'.symm ?_ rfl rfl
    intro N' f' le' b7 b8 b9 b10 b11 g' b13 h1 s1 x1
    refine hp N' f' le' b7 b8 b9 b10 b11 g' h b13 a14 h1 s1 (gc_TX_mono x1 (fun E q => ?_) (fun t α => Nat.le_refl _))
    rw [veq E, hwa']
    show gc_P q true (fun c => gv E ((c + (nI (4 - j)).toNatClampNeg) % 4)) (gc_val E f a) = gc_P q true (gv E) (fun c => gc_val E f a ((c + (nI j).toNatClampNeg) % 4))
    rw [gc_clamp_lt (by omega), gc_clamp_lt (by omega)]
    exact (gc_P_turn q (gv E) (gc_val E f a) hj0 hj).symm
  | 7, _ =>
    obtain ⟨hw, hwa, j, hj, hn⟩ := o3
    have hwa' : (f a).2.2.2.2 = true := hwa
    subst hw hn
    refine br_f (by decide) (br_f (by decide) (br_f (by decide) (br_f (by decide) (br_f (by decide) (br_f (by decide) ?_)))))
    unfold wpX_passUnary
    refine br_f (by decide) (br_f (by decide) (br_f (by decide) (br_f (by decide) (br_t rfl ?_))))
    refine gc_uni hL (by omega) hS 12 rfl rfl (IA rfl) (o1 rfl) hgot ⟨rfl, rfl, j, by omega, rfl⟩ hwa'.symm ?_ rfl rfl
    intro N' f' le' b7 b8 b9 b10 b11 g' b13 h1 s1 x1
    refine hp N' f' le' b7 b8 b9 b10 b11 g' h b13 a14 h1 s1 (gc_TX_mono x1 (fun E q => ?_) (fun t α => Nat.le_refl _))
    rw [veq E, hwa']
    show gc_P q true (fun c => if c = (nI j).toNatClampNeg then gv E 0 else gc_z) (gc_val E f a) = gc_P q false (gv E) (fun _ => gc_val E f a (nI j).toNatClampNeg)
    rw [gc_clamp_lt (by omega)]
    exact (gc_P_pick q (gv E) (gc_val E f a) hj).symm
  | 8, _ =>
    obtain ⟨hw, hwa⟩ := o3
    have hwa' : (f a).2.2.2.2 = false := hwa
    refine br_f (by decide) (br_f (by decide) (br_f (by decide) (br_f (by decide) (br_f (by decide) (br_f (by decide) ?_)))))
    unfold wpX_passUnary
    refine br_f (by decide) (br_f (by decide) (br_t rfl ?_))
    refine gc_giveT hL (by omega) hS (o1 rfl) (IA rfl) hgot ?_
    intro N' f' le' b7 b8 b9 b10 b11 g' b13 h1 s1 x1 n1
    refine hp N' f' le' b7 b8 b9 b10 b11 g' h b13 a14 h1 s1 (gc_TX_mono x1 (fun E q => ?_) (fun t α => ?_))
    · rw [veq E]
      exact (gc_P_fit q (fun z => hw) (gv E) (gc_val E f a) (fun z => FA rfl z E)).symm
    · show _ ≤ gc_mis t + gc_A t α
      split <;> omega
  | 9, _ => exact absurd o3 (fun z => z)
  | 10, _ =>
    obtain ⟨hw, hwa⟩ := o3
    have hwa' : (f a).2.2.2.2 = true := hwa
    subst hw
    refine br_f (by decide) (br_f (by decide) (br_f (by decide) (br_f (by decide) (br_f (by decide) (br_f (by decide) ?_)))))
    unfold wpX_passUnary
    refine br_f (by decide) (br_f (by decide) (br_f (by decide) (br_f (by decide) (br_f (by decide) (br_f (by decide) (br_t rfl ?_))))))
    refine gc_uni hL (by omega) hS 14 rfl rfl (IA rfl) (o1 rfl) hgot ⟨rfl, rfl⟩ hwa'.symm ?_ rfl rfl
    intro N' f' le' b7 b8 b9 b10 b11 g' b13 h1 s1 x1
    refine hp N' f' le' b7 b8 b9 b10 b11 g' h b13 a14 h1 s1 (gc_TX_mono x1 (fun E q => ?_) (fun t α => Nat.le_refl _))
    rw [veq E, hwa']
    exact (gc_P_run q (gv E) (gc_val E f a)).symm
  | 11, _ =>
    refine br_f (by decide) (br_f (by decide) (br_f (by decide) (br_f (by decide) (br_f (by decide) (br_t rfl ?_)))))
    refine hp N f le a7 a8 a9 a10 a11 g h a13 a14 hL hS ⟨gc_X_refl N f, fun E q => ?_, fun t α => Nat.le_add_right _ _⟩
    dsimp only
    rw [veq E]
    have : gc_P q w (gv E) (gc_sm E 11 n (gc_val E f a) (gc_val E f b)) = 0 := gc_P_cr q w (gv E) (fun c => E.2.1 n.toNatClampNeg c)
    rw [this, Int32.add_zero]
  | 12, _ =>
    obtain ⟨hw, hwa, j, hj, hn⟩ := o3
    have hwa' : (f a).2.2.2.2 = false := hwa
    subst hw hn
    refine br_f (by decide) (br_f (by decide) (br_f (by decide) (br_f (by decide) (br_f (by decide) (br_f (by decide) ?_)))))
    unfold wpX_passUnary
    refine br_f (by decide) (br_f (by decide) (br_f (by decide) (br_f (by decide) (br_f (by decide) (br_t rfl ?_)))))
    refine gc_uni hL (by omega) hS 7 rfl rfl (IA rfl) (o1 rfl) hgot ⟨rfl, rfl, j, by omega, rfl⟩ hwa'.symm ?_ rfl rfl
    intro N' f' le' b7 b8 b9 b10 b11 g' b13 h1 s1 x1
    refine hp N' f' le' b7 b8 b9 b10 b11 g' h b13 a14 h1 s1 (gc_TX_mono x1 (fun E q => ?_) (fun t α => Nat.le_refl _))
    rw [veq E, hwa']
    show gc_P q false (fun _ => gv E (nI j).toNatClampNeg) (gc_val E f a) = gc_P q true (gv E) (fun c => if c = (nI j).toNatClampNeg then gc_val E f a 0 else gc_z)
    rw [gc_clamp_lt (by omega)]
    exact (gc_P_place q (gv E) (gc_val E f a) hj).symm
  | 13, _ =>
    obtain ⟨hwa, hwb⟩ := o3
    have hwb' : (f b).2.2.2.2 = w := hwb
    refine br_f (by decide) (br_f (by decide) (br_f (by decide) (br_f (by decide) (br_f (by decide) (br_f (by decide) ?_)))))
    unfold wpX_passUnary
    refine br_t rfl ⟨hgin, ?_⟩
    rw [hgc, rg]
    refine gc_mk2 hL (by omega) hS 13 rfl rfl (IA rfl) hgot (w := w) ⟨hwa, rfl⟩ ?_ rfl rfl
    intro r N' f' le' b7 b8 b9 b10 b11 h1 s1 x1 n1 i1
    refine gc_giveT h1 (by omega) s1 (o2 rfl) (gc_is_ext x1.1 (IB rfl)) i1 ?_
    intro N2 f2 le2 c7 c8 c9 c10 c11 g2 c13 h2 s2 x2 n2
    refine hp N2 f2 le2 c7 c8 c9 c10 c11 g2 h c13 a14 h2 s2 (gc_TX_mono (gc_TX_trans x1 x2) (fun E q => ?_) (fun t α => ?_))
    · rw [veq E, hwb']
      have e : gc_fit w w (gc_sm E 13 0 (gc_val E f a) (gv E)) = gc_sm E 13 0 (gc_val E f a) (gv E) := by
        unfold gc_fit
        refine if_neg (fun z => ?_)
        rw [z.1] at z
        exact Bool.false_ne_true z.2
      show 0 + gc_P q w (gc_fit w w (gc_sm E 13 0 (gc_val E f a) (gv E))) (gc_val E f b) = _
      rw [e, Int32.zero_add]
      exact (gc_P_gate q w (gv E) (gc_val E f a) (gc_val E f b)).symm
    · rw [if_pos hwb']
      show _ ≤ gc_mc 13 t + gc_A t α
      omega
  | 14, _ =>
    obtain ⟨hw, hwa⟩ := o3
    have hwa' : (f a).2.2.2.2 = true := hwa
    subst hw
    refine br_f (by decide) (br_f (by decide) (br_f (by decide) (br_f (by decide) (br_f (by decide) (br_f (by decide) ?_)))))
    unfold wpX_passUnary
    refine br_f (by decide) (br_f (by decide) (br_f (by decide) (br_f (by decide) (br_f (by decide) (br_f (by decide) (br_f (by decide) ?_))))))
    refine gc_uni hL (by omega) hS 10 rfl rfl (IA rfl) (o1 rfl) hgot ⟨rfl, rfl⟩ hwa'.symm ?_ rfl rfl
    intro N' f' le' b7 b8 b9 b10 b11 g' b13 h1 s1 x1
    refine hp N' f' le' b7 b8 b9 b10 b11 g' h b13 a14 h1 s1 (gc_TX_mono x1 (fun E q => ?_) (fun t α => Nat.le_refl _))
    rw [veq E, hwa']
    exact (gc_P_rub q (gv E) (gc_val E f a)).symm
end
end
section
section
variable {nc lv le fc : Int32} {a1 a2 a3 a4 a5 a6 a7 a8 a9 a10 a11 a12 a13 a14 a15 a16 a17 : Nat → Int32}
variable {N : Nat} {f : Nat → gc_Op}
theorem gc_PS_zero (q : Bool) {w : Nat → Bool} {R s : Nat → gc_V} : ∀ m, (∀ j, j < m → R j = fun _ => gc_z) → gc_PS q w R s m = 0 := by
  intro m
  induction m with
  | zero => exact fun _ => rfl
  | succ m ih =>
    intro h
    show gc_PS q w R s m + gc_P q (w m) (R m) (s m) = 0
    rw [ih (fun j hj => h j (by omega)), h m (by omega), gc_P_zl]
    rfl
theorem gc_cnt_none (m : Nat) : gc_cnt (fun _ => none) m = 0 := by
  induction m with
  | zero => rfl
  | succ m ih => show gc_cnt (fun _ => none) m + 0 = 0; rw [ih]
theorem gc_ST_down {m N : Nat} {f : Nat → gc_Op} {g h : Nat → Option Nat} {x y : Nat → Int32} (s : gc_ST (m + 1) N f g h x y) : gc_ST m N f g h x y :=
  ⟨Nat.le_of_succ_le s.1, fun j hj => s.2.1 j (Nat.lt_succ_of_lt hj), s.2.2⟩
theorem gc_T_succ (q : Bool) (E : gc_E) (f : Nat → gc_Op) (m : Nat) (g h : Nat → Option Nat) : gc_T q E f (m + 1) g h = gc_T q E f m g h + gc_P q (gc_w (f m)) (gc_rv E f (g m)) (gc_val E f m) := by
  unfold gc_T
  show _ + (_ + _) = _
  rw [Int32.add_assoc]
def gc_BI (f0 : Nat → gc_Op) (N0 : Nat) (T0 : gc_E → Bool → Int32) (K : (Nat → Nat) → Nat → Nat) (m : Nat) (le : Int32) (a7 a8 a9 a10 a11 a13 a14 : Nat → Int32) : Prop :=
  ∃ N f g h, gc_L N f le a7 a8 a9 a10 a11 ∧ gc_ST m N f g h a13 a14 ∧ gc_X N0 f0 N f ∧ (∀ E q, gc_T q E f m g h = T0 E q) ∧ ∀ t α, gc_S t f N + α * gc_cnt g m + gc_S (fun k => gc_pc t α k - α) f0 m ≤ K t α
theorem gc_back54 {post : St1 → Prop} {N0 M : Nat} {f0 : Nat → gc_Op} {T0 : gc_E → Bool → Int32} {K : (Nat → Nat) → Nat → Nat} (hM : M ≤ N0) (hK : K (fun _ => 1) 0 + 16 ≤ 450)
    (hp : ∀ (le' : Int32) (b7 b8 b9 b10 b11 b13 b14 : Nat → Int32), gc_BI f0 N0 T0 K 0 le' b7 b8 b9 b10 b11 b13 b14 → post (nc, lv, le', fc, a1, a2, a3, a4, a5, a6, b7, b8, b9, b10, b11, a12, b13, b14, a15, a16, a17))
    (hI : gc_BI f0 N0 T0 K M le a7 a8 a9 a10 a11 a13 a14) : ∃ n, wX_backwards_54 post n (nI M + (-1)) nc lv le fc a1 a2 a3 a4 a5 a6 a7 a8 a9 a10 a11 a12 a13 a14 a15 a16 a17 := by
  refine ⟨M + 1, ?_⟩
  have key := pk_loopD (σ := Int32 × (Nat → Int32) × (Nat → Int32) × (Nat → Int32) × (Nat → Int32) × (Nat → Int32) × (Nat → Int32) × (Nat → Int32))
    (fun n m s => wX_backwards_54 post n (nI m + (-1)) nc lv s.1 fc a1 a2 a3 a4 a5 a6 s.2.1 s.2.2.1 s.2.2.2.1 s.2.2.2.2.1 s.2.2.2.2.2.1 a12 s.2.2.2.2.2.2.1 s.2.2.2.2.2.2.2 a15 a16 a17)
    (fun m s => m ≤ M ∧ gc_BI f0 N0 T0 K m s.1 s.2.1 s.2.2.1 s.2.2.2.1 s.2.2.2.2.1 s.2.2.2.2.2.1 s.2.2.2.2.2.2.1 s.2.2.2.2.2.2.2) ?_ ?_ M (le, a7, a8, a9, a10, a11, a13, a14) ⟨Nat.le_refl M, hI⟩
  · exact key
  · rintro n ⟨le', b7, b8, b9, b10, b11, b13, b14⟩ ⟨_, h⟩
    exact br_t (by decide) (hp le' b7 b8 b9 b10 b11 b13 b14 h)
  · rintro n m ⟨le', b7, b8, b9, b10, b11, b13, b14⟩ ⟨hm, N', f', g, h, hL, hS, hX, hT, hC⟩ hw
    dsimp only at hL hS hw ⊢
    have hN450 := hL.2.1
    have hmN : m < N' := hS.1
    have hc : (nI m).toNatClampNeg = m := nI_clamp (by omega)
    have hin : vp_in (nI m) 450 := vp_in_nI (by omega) (by omega)
    have ho := hS.2.1 m (Nat.lt_succ_self m)
    have hfm : f' m = f0 m := hX.2 m (by omega)
    rw [pk_m1]
    unfold wX_backwards_54
    refine br_f (nI_pos (by omega)) ⟨hin, ?_⟩
    rw [hc]
    cases hg : g m with
    | none =>
      rw [hg] at ho
      have e : b13 m = -1 := ho
      rw [e]
      refine br_t (by decide) (nm_e ?_)
      refine hw (le', b7, b8, b9, b10, b11, b13, b14) ⟨by omega, N', f', g, h, hL, gc_ST_down hS, hX, fun E q => ?_, fun t α => ?_⟩
      · have t := hT E q
        rw [gc_T_succ, hg] at t
        have t2 : gc_P q (gc_w (f' m)) (gc_rv E f' none) (gc_val E f' m) = 0 := gc_P_zl q _ _
        rw [t2, Int32.add_zero] at t
        exact t
      · have t1 := hC t α
        have c1 : gc_cnt g (m + 1) = gc_cnt g m := by
          show gc_cnt g m + _ = _
          rw [hg]
          rfl
        have c2 : gc_S (fun k => gc_pc t α k - α) f0 (m + 1) = gc_S (fun k => gc_pc t α k - α) f0 m + (gc_pc t α (gc_k (f0 m)) - α) := rfl
        rw [c1, c2] at t1
        omega
    | some got =>
      rw [hg] at ho
      obtain ⟨e, g1, g2⟩ := ho
      rw [e]
      have room : N' + 16 ≤ 450 := by
        have t := hC (fun _ => 1) 0
        rw [gc_S_one] at t
        omega
      refine br_f (nI_pos (by omega)) ⟨hin, ?_⟩
      refine gc_passOn hL room (gc_ST_down hS) hmN ⟨g1, g2, fun _ => rfl⟩ ?_
      intro N2 f2 le2 c7 c8 c9 c10 c11 g' h' c13 c14 h2 s2 x2
      refine nm_e ?_
      refine hw (le2, c7, c8, c9, c10, c11, c13, c14) ⟨by omega, N2, f2, g', h', h2, s2, gc_X_trans hX x2.1, fun E q => ?_, fun t α => ?_⟩
      · rw [x2.2.1 E q]
        have t := hT E q
        rw [gc_T_succ, hg] at t
        exact t
      · have t1 := hC t α
        have t2 := x2.2.2 t α
        have c1 : gc_cnt g (m + 1) = gc_cnt g m + 1 := by
          show gc_cnt g m + _ = _
          rw [hg]
          rfl
        have c2 : gc_S (fun k => gc_pc t α k - α) f0 (m + 1) = gc_S (fun k => gc_pc t α k - α) f0 m + (gc_pc t α (gc_k (f0 m)) - α) := rfl
        rw [c1, c2, Nat.mul_add, Nat.mul_one] at t1
        rw [hfm] at t2
        dsimp only at t2
        omega
theorem gc_backwards {post : St1 → Prop} (hL : gc_L N f le a7 a8 a9 a10 a11) {r : Nat} (hr : r < N) (hw : gc_w (f r) = false) (hK : N + gc_S (gc_pc (fun _ => 1) 0) f (r + 1) + 17 ≤ 450)
    (hp : ∀ (N' : Nat) (f' : Nat → gc_Op) (le' : Int32) (b7 b8 b9 b10 b11 : Nat → Int32) (h' : Nat → Option Nat) (b13 b14 : Nat → Int32), gc_L N' f' le' b7 b8 b9 b10 b11 → gc_X N f N' f' → (∀ k, k < 3 → gc_opt N' f' (h' k) (b14 k) true) →
      (∀ E q, gc_PS q (fun _ => true) (fun k => gc_rv E f' (h' k)) (gc_inp E) 3 = gc_P q false (fun _ => (1, 0, 0, 0)) (gc_val E f r)) →
      (∀ t α, gc_S t f' N' ≤ gc_S t f N + t 1 + α + gc_S (fun k => gc_pc t α k - α) f (r + 1)) → post (nc, lv, le', fc, a1, a2, a3, a4, a5, a6, b7, b8, b9, b10, b11, a12, b13, b14, a15, a16, a17)) :
    wpX_backwards post (nc, lv, le, fc, a1, a2, a3, a4, a5, a6, a7, a8, a9, a10, a11, a12, a13, a14, a15, a16, a17) (nI r) := by
  have hN450 := hL.2.1
  unfold wpX_backwards
  -- the inputs
  refine pk_loop (σ := Nat → Int32) (fun n i s => wX_backwards_2 post (nI r) nc lv le fc n (nI i) a1 a2 a3 a4 a5 a6 a7 a8 a9 a10 a11 a12 a13 s a15 a16 a17) (fun i s => ∀ k, k < i → s k = -1) 3 0 a14 (by omega) (fun k hk => absurd hk (by omega)) ?_ ?_
  rotate_left 1
  · intro n i s hi hs hw
    refine pk_le 3 i (fun z => absurd z (by omega)) (fun _ => ⟨vp_in_nI (by omega) (by omega), nm_e (nm_r (nI_1 i) (hw _ (fun k hk => ?_)))⟩)
    rw [nI_clamp (by omega)]
    by_cases e : k = i
    · rw [e]
      exact pk_us
    · rw [pk_un e]
      exact hs k (by omega)
  intro n a14' h14
  refine pk_le 3 3 (fun _ => ?_) (fun z => absurd z (by omega))
  -- the operations
  refine pk_loop (σ := Nat → Int32) (fun n i s => wX_backwards_22 post (nI r) nc lv le fc n (nI i) a1 a2 a3 a4 a5 a6 a7 a8 a9 a10 a11 a12 s a14' a15 a16 a17) (fun i s => ∀ k, k < i → s k = -1) (r + 1) 0 a13 (by omega) (fun k hk => absurd hk (by omega)) ?_ ?_
  rotate_left 1
  · intro n i s hi hs hw
    refine pk_lt r i (fun z => absurd z (by omega)) (fun _ => ⟨vp_in_nI (by omega) (by omega), nm_e (nm_r (nI_1 i) (hw _ (fun k hk => ?_)))⟩)
    rw [nI_clamp (by omega)]
    by_cases e : k = i
    · rw [e]
      exact pk_us
    · rw [pk_un e]
      exact hs k (by omega)
  intro n a13' h13
  refine pk_lt r (r + 1) (fun _ => ?_) (fun z => absurd z (by omega))
  have hNlt : N < 450 := by omega
  refine gc_constant_2 hL hNlt 1 ?_
  intro r1 N' f' le' b7 b8 b9 b10 b11 h1 m1
  have hr1 := m1.2.1
  have hN1 := h1.2.1
  have hrc : (nI r).toNatClampNeg = r := nI_clamp (by omega)
  have hw1 : gc_w (f' r) = false := by rw [m1.1.2 r hr]; exact hw
  refine ⟨vp_in_nI (by omega) (by omega), nm_e ?_⟩
  rw [hrc, gc_sh r1 (by omega)]
  have S0 : gc_ST (r + 1) N' f' (fun _ => none) (fun _ => none) a13' a14' := ⟨Nat.le_trans hr m1.1.1, fun j hj => h13 j hj, fun k hk => h14 k hk⟩
  have T0 : ∀ q E, gc_T q E f' (r + 1) (fun _ => none) (fun _ => none) = 0 := by
    intro q E
    unfold gc_T
    have z1 : gc_PS q (fun _ => true) (fun k => gc_rv E f' ((fun _ => none) k)) (gc_inp E) 3 = 0 := gc_PS_zero q 3 (fun j _ => rfl)
    have z2 : gc_PS q (fun j => gc_w (f' j)) (fun j => gc_rv E f' ((fun _ => none) j)) (fun j => gc_val E f' j) (r + 1) = 0 := gc_PS_zero q (r + 1) (fun j _ => rfl)
    rw [z1, z2]
    rfl
  have main := gc_back54 (post := post) (nc := nc) (lv := lv) (fc := fc) (a1 := a1) (a2 := a2) (a3 := a3) (a4 := a4) (a5 := a5) (a6 := a6) (a12 := a12) (a15 := a15) (a16 := a16) (a17 := a17)
    (N0 := N') (f0 := f') (M := r + 1) (T0 := fun E q => gc_P q false (fun _ => (1, 0, 0, 0)) (gc_val E f r)) (K := fun t α => gc_S t f N + t 1 + α + gc_S (fun k => gc_pc t α k - α) f (r + 1))
    (le := le') (a7 := b7) (a8 := b8) (a9 := b9) (a10 := b10) (a11 := b11) (a13 := upd a13' r (nI r1)) (a14 := a14') (Nat.le_trans hr m1.1.1) ?_ ?_ ?_
  · rw [pk_m1] at main
    exact main
  · dsimp only
    rw [gc_S_one]
    show N + 1 + 0 + gc_S (gc_pc (fun _ => 1) 0) f (r + 1) + 16 ≤ 450
    omega
  · rintro le2 c7 c8 c9 c10 c11 c13 c14 ⟨N2, f2, g2, h2, l2, s2, x2, t2, k2⟩
    refine hp N2 f2 le2 c7 c8 c9 c10 c11 h2 c13 c14 l2 (gc_X_trans m1.1 x2) s2.2.2 (fun E q => ?_) (fun t α => ?_)
    · have t := t2 E q
      unfold gc_T at t
      have z : gc_PS q (fun j => gc_w (f2 j)) (fun j => gc_rv E f2 (g2 j)) (fun j => gc_val E f2 j) 0 = 0 := rfl
      rw [z, Int32.add_zero] at t
      exact t
    · have t1 := k2 t α
      have z : gc_cnt g2 0 = 0 := rfl
      have z2 : gc_S (fun k => gc_pc t α k - α) f' 0 = 0 := rfl
      rw [z, z2] at t1
      dsimp only at t1
      omega
  · refine ⟨N', f', gc_gput (fun _ => none) r r1, (fun _ => none), h1, ⟨S0.1, fun j hj => ?_, S0.2.2⟩, gc_X_refl N' f', fun E q => ?_, fun t α => ?_⟩
    · by_cases e : j = r
      · subst e
        show gc_opt N' f' (if j = j then some r1 else none) _ _
        rw [if_pos rfl, pk_us]
        exact ⟨rfl, hr1, by rw [m1.2.2.1, hw1]⟩
      · show gc_opt N' f' (if j = r then some r1 else none) _ _
        rw [if_neg e, pk_un e]
        exact h13 j hj
    · have hv : gc_val E f' r1 = fun c => gc_add (gc_rv E f' ((fun _ => none) r) c) ((fun _ => (1, 0, 0, 0)) c) := by
        rw [m1.2.2.2.1 E]
        funext c
        exact (gc_z_add _).symm
      rw [gc_T_put (gc_X_refl N' f') S0 (Nat.lt_succ_self r) (dv := fun _ => (1, 0, 0, 0)) q E hv, T0 q E, hw1, gc_val_ext E m1.1 hr, Int32.zero_add]
    · have c1 := gc_cnt_put (fun _ => none) r r1 (r + 1)
      rw [if_pos (Nat.lt_succ_self r), if_neg (fun z => absurd z.2 (by decide)), gc_cnt_none] at c1
      have c2 := m1.2.2.2.2 t
      have c3 := gc_S_ext (fun k => gc_pc t α k - α) (f := f) (g := f') (r + 1) (fun i hi => m1.1.2 i (by omega))
      have c4 : gc_cnt (gc_gput (fun _ => none) r r1) (r + 1) = 1 := by omega
      rw [c3, c4, Nat.mul_one]
      dsimp only at c2 ⊢
      omega
end
end
section
section
variable {nc lv le fc : Int32} {a1 a2 a3 a4 a5 a6 a7 a8 a9 a10 a11 a12 a13 a14 a15 a16 a17 : Nat → Int32}
variable {N : Nat} {f : Nat → gc_Op}
theorem gc_le_neg : ¬ (0 : Int32) ≤ -1 := by decide
/-- what a making method that may give none promises -/
def gc_MO (N : Nat) (f : Nat → gc_Op) (N' : Nat) (f' : Nat → gc_Op) (o : Option Nat) (x : Int32) (w : Bool) (v : gc_E → gc_V) (c : (Nat → Nat) → Nat) : Prop :=
  gc_X N f N' f' ∧ gc_opt N' f' o x w ∧ (∀ E, gc_rv E f' o = v E) ∧ ∀ t, gc_S t f' N' ≤ gc_S t f N + c t
theorem gc_MO_of {N' : Nat} {f' : Nat → gc_Op} {r : Nat} {w : Bool} {v : gc_E → gc_V} {c : (Nat → Nat) → Nat} (m : gc_MK N f N' f' r w v c) : gc_MO N f N' f' (some r) (nI r) w v c :=
  ⟨m.1, ⟨rfl, m.2.1, m.2.2.1⟩, m.2.2.2.1, m.2.2.2.2⟩
def gc_ms (k : Nat) (t : Nat → Nat) : Nat := t 1 + t 8 + gc_mc k t
theorem gc_movedSum54 {post : Int32 → St1 → Prop} (hL : gc_L N f le a7 a8 a9 a10 a11) (hN : N + 2 ≤ 450) {k p s : Nat} (hk : k = 2 ∨ k = 3) {w wl wr : Bool} (hw : w = (wl || wr)) {vl vr : gc_E → gc_V} (hl : gc_is N f p wl vl) (hr : gc_is N f s wr vr)
    (hp : ∀ (r : Nat) (N' : Nat) (f' : Nat → gc_Op) (le' : Int32) (b7 b8 b9 b10 b11 : Nat → Int32), gc_L N' f' le' b7 b8 b9 b10 b11 → gc_MK N f N' f' r w (fun E => gc_sm E k 0 (vl E) (vr E)) (gc_mc k) → post (nI r) (nc, lv, le', fc, a1, a2, a3, a4, a5, a6, b7, b8, b9, b10, b11, a12, a13, a14, a15, a16, a17)) : wX_movedSum_54 post (nI k) (nI s) (gc_B w) (nI p) nc lv le fc a1 a2 a3 a4 a5 a6 a7 a8 a9 a10 a11 a12 a13 a14 a15 a16 a17 := by
  have u1 : gc_u1 k = true := by rcases hk with e | e <;> subst e <;> rfl
  have u2 : gc_u2 k = true := by rcases hk with e | e <;> subst e <;> rfl
  have q1 : nI p = gc_e1 (k, p, s, 0, w) := by unfold gc_e1; exact (if_pos u1).symm
  have q2 : nI s = gc_e2 (k, p, s, 0, w) := by unfold gc_e2; exact (if_pos u2).symm
  unfold wX_movedSum_54
  refine gc_make hL hN (k, p, s, 0, w) ⟨(fun _ => hl.1), (fun _ => hr.1), ?_⟩ ?_ rfl q1 q2 rfl rfl
  · show gc_OKk k (gc_w (f p)) (gc_w (f s)) w 0
    rw [hl.2.1, hr.2.1]
    rcases hk with e | e <;> subst e <;> exact hw
  · intro r N' f' le' b7 b8 b9 b10 b11 h m
    refine hp r N' f' le' b7 b8 b9 b10 b11 h (gc_MK_mono m rfl (fun E => ?_) (fun _ => Nat.le_refl _))
    show gc_sm E k 0 (gc_val E f p) (gc_val E f s) = _
    rw [hl.2.2 E, hr.2.2 E]
theorem gc_movedSum {post : Int32 → St1 → Prop} (hL : gc_L N f le a7 a8 a9 a10 a11) (hN : N + 4 ≤ 450) {k : Nat} (hk : k = 2 ∨ k = 3) {w wl wr : Bool} (hw : w = (wl || wr)) {ol orr : Option Nat} {xl xr : Int32} (hl : gc_opt N f ol xl wl) (hr : gc_opt N f orr xr wr)
    (hp : ∀ (x : Int32) (o : Option Nat) (N' : Nat) (f' : Nat → gc_Op) (le' : Int32) (b7 b8 b9 b10 b11 : Nat → Int32), gc_L N' f' le' b7 b8 b9 b10 b11 → gc_MO N f N' f' o x w (fun E => gc_sm E k 0 (gc_rv E f ol) (gc_rv E f orr)) (gc_ms k) → post x (nc, lv, le', fc, a1, a2, a3, a4, a5, a6, b7, b8, b9, b10, b11, a12, a13, a14, a15, a16, a17)) : wpX_movedSum post (nc, lv, le, fc, a1, a2, a3, a4, a5, a6, a7, a8, a9, a10, a11, a12, a13, a14, a15, a16, a17) (nI k) xl xr (gc_B w) := by
  have hN4 := hL.2.1
  have sz : gc_sub gc_z gc_z = gc_z := gc_sub_z _
  have xR : ∀ E : gc_E, ∀ x : gc_V, gc_sm E k 0 x (fun _ => gc_z) = x := by
    intro E x
    funext c
    rcases hk with e | e <;> subst e
    · exact gc_add_z _
    · exact gc_sub_z _
  have c8 : ∀ t, t 8 ≤ gc_ms k t := fun t => by unfold gc_ms; omega
  have W : ∀ j v, gc_is N f j v (fun E => gc_val E f j) → (v = true → w = true) → (∀ E, gc_val E f j = gc_sm E k 0 (gc_rv E f ol) (gc_rv E f orr)) → wpX_widened post (nc, lv, le, fc, a1, a2, a3, a4, a5, a6, a7, a8, a9, a10, a11, a12, a13, a14, a15, a16, a17) (nI j) (gc_B w) := by
    intro j v hj hv he
    refine gc_widened hL (by omega) hj.1 w (fun z => hv (by rw [← hj.2.1]; exact z)) ?_
    intro r N' f' le' b7 b8 b9 b10 b11 h m
    exact hp _ (some r) N' f' le' b7 b8 b9 b10 b11 h (gc_MO_of (gc_MK_mono m rfl he c8))
  unfold wpX_movedSum
  match ol, hl, orr, hr, hp, W with
  | none, hl, none, hr, hp, W =>
    have e1 : xl = -1 := hl
    have e2 : xr = -1 := hr
    subst e1 e2
    refine br_f gc_le_neg (br_f gc_le_neg ?_)
    exact hp (-1) none N f le a7 a8 a9 a10 a11 hL ⟨gc_X_refl N f, rfl, fun E => (xR E _).symm, fun t => Nat.le_add_right _ _⟩
  | some p, hl, none, hr, hp, W =>
    have e2 : xr = -1 := hr
    obtain ⟨e1, l1, l2⟩ := hl
    subst e1 e2
    refine br_t (nI_pos' (by omega)) ?_
    unfold wX_movedSum_10
    refine br_f gc_le_neg ?_
    exact W p wl ⟨l1, l2, fun _ => rfl⟩ (fun z => by rw [hw, z]; rfl) (fun E => (xR E _).symm)
  | none, hl, some s, hr, hp, W =>
    have e1 : xl = -1 := hl
    obtain ⟨e2, r1, r2⟩ := hr
    subst e1 e2
    refine br_f gc_le_neg (br_t (nI_pos' (by omega)) ?_)
    unfold wX_movedSum_10
    refine br_t (nI_pos' (by omega)) (br_f gc_le_neg (pk_eq k 2 (fun e => ?_) (fun e => ?_)))
    · subst e
      exact W s wr ⟨r1, r2, fun _ => rfl⟩ (fun z => by rw [hw, z, Bool.or_true]) (fun E => by funext c; exact (gc_z_add _).symm)
    · unfold wX_movedSum_39
      refine br_f gc_le_neg ?_
      refine gc_zero hL (by omega) w ?_
      intro z N' f' le' b7 b8 b9 b10 b11 h m
      have rm := gc_room m.2.2.2.2
      have rm2 : (if w = true then 1 else 0) ≤ 1 := by cases w <;> decide
      dsimp only at rm
      refine gc_movedSum54 h (by omega) hk (wl := w) (wr := wr) (vl := fun _ _ => gc_z) (vr := fun E => gc_val E f s) ?_ ⟨m.2.1, m.2.2.1, m.2.2.2.1⟩ (gc_is_ext m.1 ⟨r1, r2, fun _ => rfl⟩) ?_
      · rw [hw]
        cases wl <;> cases wr <;> rfl
      · intro r N2 f2 le2 c7 c8 c9 c10 c11 h2 m2
        refine hp _ (some r) N2 f2 le2 c7 c8 c9 c10 c11 h2 ⟨gc_X_trans m.1 m2.1, ⟨rfl, m2.2.1, m2.2.2.1⟩, m2.2.2.2.1, fun t => ?_⟩
        have y1 := m.2.2.2.2 t
        have y2 := m2.2.2.2.2 t
        dsimp only at y1
        unfold gc_ms
        cases w <;> simp only [if_true, if_false, Bool.false_eq_true] at y1 <;> omega
  | some p, hl, some s, hr, hp, W =>
    obtain ⟨e1, l1, l2⟩ := hl
    obtain ⟨e2, r1, r2⟩ := hr
    subst e1 e2
    refine br_t (nI_pos' (by omega)) ?_
    unfold wX_movedSum_10
    refine br_t (nI_pos' (by omega)) (br_t (nI_pos' (by omega)) ?_)
    unfold wX_movedSum_39
    refine br_t (nI_pos' (by omega)) ?_
    refine gc_movedSum54 hL (by omega) hk hw ⟨l1, l2, fun _ => rfl⟩ ⟨r1, r2, fun _ => rfl⟩ ?_
    intro r N' f' le' b7 b8 b9 b10 b11 h m
    exact hp _ (some r) N' f' le' b7 b8 b9 b10 b11 h (gc_MO_of (gc_MK_mono m rfl (fun _ => rfl) (fun t => by unfold gc_ms; omega)))
/-- the linear operations -/
theorem gc_lin (E : gc_E) {k : Nat} (hk : k = 5 ∨ k = 6 ∨ k = 7 ∨ k = 8 ∨ k = 10 ∨ k = 12 ∨ k = 14) (n : Int32) {x y : gc_V} (z z' : gc_V) (h : ∀ c, (x c).1 = (y c).2.1) (c : Nat) : (gc_sm E k n x z c).1 = (gc_sm E k n y z' c).2.1 := by
  rcases hk with e | e | e | e | e | e | e <;> subst e
  · show (gc_s4 x).1 = (gc_s4 y).2.1
    simp only [gc_s4, gc_add, h]
  · exact h _
  · exact h _
  · exact h _
  · show (gc_run x c).1 = (gc_run y c).2.1
    induction c with
    | zero => exact h 0
    | succ c ih => simp only [gc_run, gc_add, h, ih]
  · show (if c = n.toNatClampNeg then x 0 else gc_z).1 = (if c = n.toNatClampNeg then y 0 else gc_z).2.1
    by_cases e : c = n.toNatClampNeg
    · rw [if_pos e, if_pos e]
      exact h 0
    · rw [if_neg e, if_neg e]
      rfl
  · show (gc_rub x c).1 = (gc_rub y c).2.1
    match c with
    | 0 => simp only [gc_rub, gc_add, h]
    | 1 => simp only [gc_rub, gc_add, h]
    | 2 => simp only [gc_rub, gc_add, h]
    | c + 3 => exact h 3
def gc_fc (t : Nat → Nat) (k : Nat) : Nat :=
  match k with
  | 0 => t 11
  | 2 => gc_ms 2 t
  | 3 => gc_ms 3 t
  | 4 => 2 * gc_mc 4 t + gc_ms 2 t
  | k => gc_mc k t
/-- x and o: how an operation moves along the directions -/
def gc_FW (f' f : Nat → gc_Op) (id : Nat) (o : Option Nat) : Prop := ∀ E : gc_E, E.2.2.1 = E.2.1 → ∀ c, (gc_rv E f' o c).1 = (gc_val E f id c).2.1
theorem gc_FW_ext {N' : Nat} {f' : Nat → gc_Op} (p : gc_X N f N' f') {f0 : Nat → gc_Op} {j : Nat} {o : Option Nat} {x : Int32} {w : Bool} (ho : gc_opt N f o x w) (h : gc_FW f f0 j o) : gc_FW f' f0 j o :=
  fun E he c => by rw [gc_rv_ext E p ho]; exact h E he c
theorem gc_opt_cases {o : Option Nat} {x : Int32} {w : Bool} (h : gc_opt N f o x w) (hN : N ≤ 450) {A B : Prop} (hs : ∀ r, o = some r → x = nI r → r < N → gc_w (f r) = w → A) (hn : o = none → x = -1 → B) : (0 ≤ x → A) ∧ (¬ 0 ≤ x → B) := by
  match o, h with
  | none, h =>
    have e : x = -1 := h
    exact br_f (by rw [e]; exact gc_le_neg) (hn rfl e)
  | some r, h => exact br_t (by rw [h.1]; exact nI_pos' (by have := h.2.1; omega)) (hs r rfl h.1 h.2.1 h.2.2)
end
end
section
section
variable {nc lv le fc : Int32} {a1 a2 a3 a4 a5 a6 a7 a8 a9 a10 a11 a12 a13 a14 a15 a16 a17 : Nat → Int32}
variable {N : Nat} {f : Nat → gc_Op}
theorem gc_moved158 {post : Int32 → St1 → Prop} (hL : gc_L N f le a7 a8 a9 a10 a11) (hN : N + 4 ≤ 450) {id : Nat} (hid : id < N) {w : Bool} (hw : gc_w (f id) = w) {ol orr : Option Nat} {xl xr : Int32} (hl : gc_opt N f ol xl w) (hr : gc_opt N f orr xr w)
    (hp : ∀ (x : Int32) (o : Option Nat) (N' : Nat) (f' : Nat → gc_Op) (le' : Int32) (b7 b8 b9 b10 b11 : Nat → Int32), gc_L N' f' le' b7 b8 b9 b10 b11 → gc_MO N f N' f' o x w (fun E => gc_sm E 2 0 (gc_rv E f ol) (gc_rv E f orr)) (gc_ms 2) → post x (nc, lv, le', fc, a1, a2, a3, a4, a5, a6, b7, b8, b9, b10, b11, a12, a13, a14, a15, a16, a17)) : wX_moved_158 post (nI id) xl xr nc lv le fc a1 a2 a3 a4 a5 a6 a7 a8 a9 a10 a11 a12 a13 a14 a15 a16 a17 := by
  have hc : (nI id).toNatClampNeg = id := nI_clamp (by omega)
  have r4 : a11 id = gc_B w := by rw [((hL.2.2 id hid).1).2.2.2.2, hw]
  unfold wX_moved_158
  rw [hc, r4]
  refine ⟨vp_in_nI (by omega) (by omega), ?_⟩
  refine gc_movedSum hL hN (k := 2) (Or.inl rfl) (by rw [Bool.or_self]) hl hr ?_
  intro x o N' f' le' b7 b8 b9 b10 b11 h m
  exact hp x o N' f' le' b7 b8 b9 b10 b11 h m
theorem gc_moved122 {post : Int32 → St1 → Prop} (hL : gc_L N f le a7 a8 a9 a10 a11) (hN : N + 6 ≤ 450) {id a b : Nat} (hid : id < N) (ha : a < N) (hb : b < N) {w wa wb : Bool} (hwid : gc_w (f id) = w) (hwa : gc_w (f a) = wa) (hw : w = (wa || wb))
    {ob ol : Option Nat} {z0 : Int32} (hob : gc_opt N f ob (a13 b) wb) (hol : gc_opt N f ol z0 w)
    (hp : ∀ (x : Int32) (o : Option Nat) (N' : Nat) (f' : Nat → gc_Op) (le' : Int32) (b7 b8 b9 b10 b11 : Nat → Int32), gc_L N' f' le' b7 b8 b9 b10 b11 → gc_MO N f N' f' o x w (fun E => gc_sm E 2 0 (gc_rv E f ol) (gc_sm E 4 0 (gc_val E f a) (gc_rv E f ob))) (fun t => gc_mc 4 t + gc_ms 2 t) → post x (nc, lv, le', fc, a1, a2, a3, a4, a5, a6, b7, b8, b9, b10, b11, a12, a13, a14, a15, a16, a17)) :
    wX_moved_122 post (nI id) (nI a) (nI b) z0 nc lv le fc a1 a2 a3 a4 a5 a6 a7 a8 a9 a10 a11 a12 a13 a14 a15 a16 a17 := by
  have hc : (nI id).toNatClampNeg = id := nI_clamp (by omega)
  have hcb : (nI b).toNatClampNeg = b := nI_clamp (by omega)
  have hinb : vp_in (nI b) 450 := vp_in_nI (by omega) (by omega)
  have hini : vp_in (nI id) 450 := vp_in_nI (by omega) (by omega)
  have r4 : a11 id = gc_B w := by rw [((hL.2.2 id hid).1).2.2.2.2, hwid]
  unfold wX_moved_122
  rw [hc, hcb, r4]
  refine ⟨hinb, gc_opt_cases hob hL.2.1 (fun s es ex s1 s2 => ⟨hinb, hini, ?_⟩) (fun es ex => ?_)⟩
  · rw [ex]
    subst es
    refine gc_make hL (by omega) (4, a, s, 0, w) ⟨(fun _ => ha), (fun _ => s1), ?_⟩ ?_ rfl rfl rfl rfl rfl
    · show w = (gc_w (f a) || gc_w (f s))
      rw [hwa, s2, hw]
    · intro r N' f' le' b7 b8 b9 b10 b11 h m
      have rm := gc_room2 m
      refine gc_moved158 h (by omega) (Nat.lt_of_lt_of_le hid m.1.1) (by rw [m.1.2 id hid]; exact hwid) (gc_opt_ext m.1 hol) (orr := some r) ⟨rfl, m.2.1, m.2.2.1⟩ ?_
      intro x o N2 f2 le2 c7 c8 c9 c10 c11 h2 m2
      refine hp x o N2 f2 le2 c7 c8 c9 c10 c11 h2 ⟨gc_X_trans m.1 m2.1, m2.2.1, fun E => ?_, fun t => ?_⟩
      · rw [m2.2.2.1 E]
        dsimp only
        rw [gc_rv_ext E m.1 hol]
        show gc_sm E 2 0 _ (gc_val E f' r) = _
        rw [m.2.2.2.1 E]
        rfl
      · have y1 := m.2.2.2.2 t
        have y2 := m2.2.2.2 t
        show _ ≤ _ + (gc_mc 4 t + gc_ms 2 t)
        have y3 : gc_S t f' N' ≤ gc_S t f N + gc_mc 4 t := y1
        omega
  · subst es
    refine gc_moved158 hL (by omega) hid hwid hol (orr := none) rfl ?_
    intro x o N' f' le' b7 b8 b9 b10 b11 h m
    refine hp x o N' f' le' b7 b8 b9 b10 b11 h ⟨m.1, m.2.1, fun E => ?_, fun t => ?_⟩
    · rw [m.2.2.1 E]
      have e : gc_sm E 4 0 (gc_val E f a) (gc_rv E f none) = gc_rv E f none := by
        funext c
        exact gc_mul_z _
      dsimp only
      rw [e]
    · have y1 := m.2.2.2 t
      show _ ≤ _ + (gc_mc 4 t + gc_ms 2 t)
      omega
theorem gc_moved {post : Int32 → St1 → Prop} (hL : gc_L N f le a7 a8 a9 a10 a11) (hN : N + 8 ≤ 450) {id : Nat} (hid : id < N) {g : Nat → Option Nat} (hR : ∀ j, j < id → gc_opt N f (g j) (a13 j) (gc_w (f j)) ∧ gc_FW f f j (g j)) (h11 : gc_k (f id) ≠ 11)
    (hp : ∀ (x : Int32) (o : Option Nat) (N' : Nat) (f' : Nat → gc_Op) (le' : Int32) (b7 b8 b9 b10 b11 : Nat → Int32), gc_L N' f' le' b7 b8 b9 b10 b11 → gc_X N f N' f' → gc_opt N' f' o x (gc_w (f id)) → gc_FW f' f id o → (∀ t, gc_S t f' N' ≤ gc_S t f N + gc_fc t (gc_k (f id))) → post x (nc, lv, le', fc, a1, a2, a3, a4, a5, a6, b7, b8, b9, b10, b11, a12, a13, a14, a15, a16, a17)) :
    wpX_moved post (nc, lv, le, fc, a1, a2, a3, a4, a5, a6, a7, a8, a9, a10, a11, a12, a13, a14, a15, a16, a17) (nI id) := by
  have hc : (nI id).toNatClampNeg = id := nI_clamp (by omega)
  have hin : vp_in (nI id) 450 := vp_in_nI (by omega) (by omega)
  obtain ⟨⟨r0, r1, r2, r3, r4⟩, ok⟩ := hL.2.2 id hid
  have veq := fun E => gc_val_eq E ok
  unfold wpX_moved
  dsimp only
  rw [hc, r0, r1, r2, r3, r4]
  have hwid : gc_w (f id) = gc_w (f id) := rfl
  rcases hf : f id with ⟨k, a, b, n, w⟩
  have hw0 : gc_w (f id) = w := by rw [hf]
  rw [hf] at ok veq hp h11
  clear r0 r1 r2 r3 r4 hwid
  obtain ⟨o1, o2, o3⟩ := ok
  dsimp only [gc_k, gc_a, gc_b, gc_n, gc_w, gc_sem] at o1 o2 o3 veq hp h11 ⊢
  have k15 := gc_k15 o3
  have E1 : gc_u1 k = true → gc_e1 (k, a, b, n, w) = nI a := fun u => by unfold gc_e1; exact if_pos u
  have E2 : gc_u2 k = true → gc_e2 (k, a, b, n, w) = nI b := fun u => by unfold gc_e2; exact if_pos u
  have CA : gc_u1 k = true → (nI a).toNatClampNeg = a ∧ vp_in (nI a) 450 ∧ a < N := fun u => by have := o1 u; exact ⟨nI_clamp (by omega), vp_in_nI (by omega) (by omega), by omega⟩
  have CB : gc_u2 k = true → (nI b).toNatClampNeg = b ∧ vp_in (nI b) 450 ∧ b < N := fun u => by have := o2 u; exact ⟨nI_clamp (by omega), vp_in_nI (by omega) (by omega), by omega⟩
  -- a sum or a difference
  have SUMS : k = 2 ∨ k = 3 → wX_moved_59 post (nI id) (nI k) (gc_e1 (k, a, b, n, w)) (gc_e2 (k, a, b, n, w)) nc lv le fc a1 a2 a3 a4 a5 a6 a7 a8 a9 a10 a11 a12 a13 a14 a15 a16 a17 := by
    intro hk
    have u1 : gc_u1 k = true := by rcases hk with e | e <;> subst e <;> rfl
    have u2 : gc_u2 k = true := by rcases hk with e | e <;> subst e <;> rfl
    obtain ⟨ca, va, la⟩ := CA u1
    obtain ⟨cb, vb, lb⟩ := CB u2
    obtain ⟨pa, fa⟩ := hR a (o1 u1)
    obtain ⟨pb, fb⟩ := hR b (o2 u2)
    have hw : w = ((f a).2.2.2.2 || (f b).2.2.2.2) := by rcases hk with e | e <;> subst e <;> exact o3
    have rid : a11 id = gc_B w := by rw [((hL.2.2 id hid).1).2.2.2.2, hw0]
    rw [E1 u1, E2 u2]
    unfold wX_moved_59
    rw [ca, cb, hc, rid]
    refine ⟨va, vb, hin, ?_⟩
    refine gc_movedSum hL (by omega) hk hw pa pb ?_
    intro x o N' f' le' b7 b8 b9 b10 b11 h m
    refine hp x o N' f' le' b7 b8 b9 b10 b11 h m.1 m.2.1 (fun E he c => ?_) (fun t => ?_)
    · rw [m.2.2.1 E, veq E]
      have ha := fa E he c
      have hb := fb E he c
      rcases hk with e | e <;> subst e
      · show (gc_rv E f (g a) c).1 + (gc_rv E f (g b) c).1 = (gc_val E f a c).2.1 + (gc_val E f b c).2.1
        rw [ha, hb]
      · show (gc_rv E f (g a) c).1 - (gc_rv E f (g b) c).1 = (gc_val E f a c).2.1 - (gc_val E f b c).2.1
        rw [ha, hb]
    · have y := m.2.2.2 t
      rcases hk with e | e <;> subst e <;> exact y
  refine ⟨hin, nm_e ⟨hin, nm_e ⟨hin, nm_e ?_⟩⟩⟩
  -- none
  have NONE : (∀ E : gc_E, E.2.2.1 = E.2.1 → ∀ c, 0 = (gc_val E f id c).2.1) → post (-1) (nc, lv, le, fc, a1, a2, a3, a4, a5, a6, a7, a8, a9, a10, a11, a12, a13, a14, a15, a16, a17) := by
    intro hz
    exact hp (-1) none N f le a7 a8 a9 a10 a11 hL (gc_X_refl N f) rfl (fun E he c => hz E he c) (fun t => Nat.le_add_right _ _)
  -- linear
  have LIN : (k = 5 ∨ k = 6 ∨ k = 7 ∨ k = 8 ∨ k = 10 ∨ k = 12 ∨ k = 14) → vp_in (gc_e1 (k, a, b, n, w)) 450 ∧ ((0 ≤ a13 (gc_e1 (k, a, b, n, w)).toNatClampNeg → vp_in (gc_e1 (k, a, b, n, w)) 450 ∧ vp_in (nI id) 450 ∧ vp_in (nI id) 450 ∧ wpX_make post (nc, lv, le, fc, a1, a2, a3, a4, a5, a6, a7, a8, a9, a10, a11, a12, a13, a14, a15, a16, a17) (nI k) (a13 (gc_e1 (k, a, b, n, w)).toNatClampNeg) (-1) n (gc_B w)) ∧ (¬ 0 ≤ a13 (gc_e1 (k, a, b, n, w)).toNatClampNeg → post (-1) (nc, lv, le, fc, a1, a2, a3, a4, a5, a6, a7, a8, a9, a10, a11, a12, a13, a14, a15, a16, a17))) := by
    intro hk
    have u1 : gc_u1 k = true := by rcases hk with e | e | e | e | e | e | e <;> subst e <;> rfl
    have u2 : ¬ gc_u2 k = true := by rcases hk with e | e | e | e | e | e | e <;> subst e <;> exact Bool.false_ne_true
    obtain ⟨ca, va, la⟩ := CA u1
    obtain ⟨pa, fa⟩ := hR a (o1 u1)
    rw [E1 u1, ca]
    refine ⟨va, gc_opt_cases pa hL.2.1 (fun s es ex s1 s2 => ⟨va, hin, hin, ?_⟩) (fun es ex => NONE (fun E he c => ?_))⟩
    · rw [ex]
      have q1 : nI s = gc_e1 (k, s, b, n, w) := by unfold gc_e1; exact (if_pos u1).symm
      have q2 : (-1) = gc_e2 (k, s, b, n, w) := by unfold gc_e2; exact (if_neg u2).symm
      refine gc_make hL (by omega) (k, s, b, n, w) ⟨(fun _ => s1), (fun u => absurd u u2), gc_OKk_cong o3 (fun _ => s2) (fun _ => rfl)⟩ ?_ rfl q1 q2 rfl rfl
      intro r N' f' le' b7 b8 b9 b10 b11 h m
      refine hp (nI r) (some r) N' f' le' b7 b8 b9 b10 b11 h m.1 ⟨rfl, m.2.1, m.2.2.1⟩ (fun E he c => ?_) (fun t => ?_)
      · show (gc_val E f' r c).1 = _
        rw [m.2.2.2.1 E, veq E]
        refine gc_lin E hk n _ _ (fun c => ?_) c
        have := fa E he c
        rw [es] at this
        exact this
      · have y := m.2.2.2.2 t
        have z : gc_fc t k = gc_mc k t := by rcases hk with e | e | e | e | e | e | e <;> subst e <;> rfl
        rw [z]
        exact y
    · rw [veq E]
      have hx : ∀ c, ((fun _ => gc_z : gc_V) c).1 = (gc_val E f a c).2.1 := by
        intro c
        have := fa E he c
        rw [es] at this
        exact this
      have y := gc_lin E hk n (gc_val E f b) (gc_val E f b) hx c
      rw [← y]
      by_cases e8 : k = 8
      · subst e8
        rfl
      · rw [gc_unary_z E (by omega)]
        rfl
  match k, k15 with
  | 0, _ =>
    obtain ⟨hw, j, hj, hn⟩ := o3
    subst hw hn
    refine br_t rfl ⟨hin, ?_⟩
    refine gc_make hL (by omega) (11, 0, 0, nI j, true) ⟨(fun u => absurd u Bool.false_ne_true), (fun u => absurd u Bool.false_ne_true), rfl, j, hj, rfl⟩ ?_ rfl rfl rfl rfl rfl
    intro r N' f' le' b7 b8 b9 b10 b11 h m
    refine hp (nI r) (some r) N' f' le' b7 b8 b9 b10 b11 h m.1 ⟨rfl, m.2.1, m.2.2.1⟩ (fun E he c => ?_) (fun t => m.2.2.2.2 t)
    show (gc_val E f' r c).1 = _
    rw [m.2.2.2.1 E, veq E]
    show E.2.1 (nI j).toNatClampNeg c = E.2.2.1 (nI j).toNatClampNeg c
    rw [he]
  | 1, _ =>
    refine br_f (by decide) (br_t rfl (NONE (fun E he c => ?_)))
    rw [veq E]
    rfl
  | 2, _ => exact br_f (by decide) (br_f (by decide) (br_t rfl (SUMS (Or.inl rfl))))
  | 3, _ => exact br_f (by decide) (br_f (by decide) (br_f (by decide) (br_t rfl (SUMS (Or.inr rfl)))))
  | 4, _ =>
    obtain ⟨ca, va, la⟩ := CA rfl
    obtain ⟨cb, vb, lb⟩ := CB rfl
    obtain ⟨pa, fa⟩ := hR a (o1 rfl)
    obtain ⟨pb, fb⟩ := hR b (o2 rfl)
    have hw : w = ((f a).2.2.2.2 || (f b).2.2.2.2) := o3
    refine br_f (by decide) (br_f (by decide) (br_f (by decide) (br_f (by decide) (br_t rfl ?_))))
    rw [E1 rfl, E2 rfl, ca]
    refine ⟨va, gc_opt_cases pa hL.2.1 (fun s es ex s1 s2 => ⟨va, hin, ?_⟩) (fun es ex => ?_)⟩
    · rw [ex]
      refine gc_make hL (by omega) (4, s, b, 0, w) ⟨(fun _ => s1), (fun _ => lb), ?_⟩ ?_ rfl rfl rfl rfl rfl
      · show w = (gc_w (f s) || gc_w (f b))
        rw [s2]
        exact hw
      · intro r N' f' le' b7 b8 b9 b10 b11 h m
        have rm := gc_room2 m
        have pb' := gc_opt_ext m.1 pb
        refine gc_moved122 h (by omega) (Nat.lt_of_lt_of_le hid m.1.1) (Nat.lt_of_lt_of_le la m.1.1) (Nat.lt_of_lt_of_le lb m.1.1) (by rw [m.1.2 id hid]; exact hw0) (wa := (f a).2.2.2.2) (by rw [m.1.2 a la]) hw pb' (ol := some r) ⟨rfl, m.2.1, m.2.2.1⟩ ?_
        intro x o N2 f2 le2 c7 c8 c9 c10 c11 h2 m2
        refine hp x o N2 f2 le2 c7 c8 c9 c10 c11 h2 (gc_X_trans m.1 m2.1) m2.2.1 (fun E he c => ?_) (fun t => ?_)
        · have ha := fa E he c
          rw [es] at ha
          have hb := fb E he c
          rw [m2.2.2.1 E, veq E]
          show (gc_val E f' r c).1 + (gc_val E f' a c).1 * (gc_rv E f' (g b) c).1 = (gc_val E f a c).2.1 * (gc_val E f b c).1 + (gc_val E f a c).1 * (gc_val E f b c).2.1
          rw [gc_val_ext E m.1 la, gc_rv_ext E m.1 pb, m.2.2.2.1 E]
          show (gc_val E f s c).1 * (gc_val E f b c).1 + _ = _
          have ha' : (gc_val E f s c).1 = (gc_val E f a c).2.1 := ha
          rw [ha', hb]
        · have y1 : gc_S t f' N' ≤ gc_S t f N + gc_mc 4 t := m.2.2.2.2 t
          have y2 : gc_S t f2 N2 ≤ gc_S t f' N' + (gc_mc 4 t + gc_ms 2 t) := m2.2.2.2 t
          show _ ≤ _ + (2 * gc_mc 4 t + gc_ms 2 t)
          omega
    · refine gc_moved122 hL (by omega) hid la lb hw0 (wa := (f a).2.2.2.2) rfl hw pb (ol := none) rfl ?_
      intro x o N' f' le' b7 b8 b9 b10 b11 h m
      refine hp x o N' f' le' b7 b8 b9 b10 b11 h m.1 m.2.1 (fun E he c => ?_) (fun t => ?_)
      · have ha := fa E he c
        rw [es] at ha
        have hb := fb E he c
        have ha' : (0 : Int32) = (gc_val E f a c).2.1 := ha
        rw [m.2.2.1 E, veq E]
        show 0 + (gc_val E f a c).1 * (gc_rv E f (g b) c).1 = (gc_val E f a c).2.1 * (gc_val E f b c).1 + (gc_val E f a c).1 * (gc_val E f b c).2.1
        rw [← ha', hb]
        grind
      · have y2 : gc_S t f' N' ≤ gc_S t f N + (gc_mc 4 t + gc_ms 2 t) := m.2.2.2 t
        show _ ≤ _ + (2 * gc_mc 4 t + gc_ms 2 t)
        omega
  | 5, _ => exact br_f (by decide) (br_f (by decide) (br_f (by decide) (br_f (by decide) (br_f (by decide) (br_f (by decide) (LIN (by decide)))))))
  | 6, _ => exact br_f (by decide) (br_f (by decide) (br_f (by decide) (br_f (by decide) (br_f (by decide) (br_f (by decide) (LIN (by decide)))))))
  | 7, _ => exact br_f (by decide) (br_f (by decide) (br_f (by decide) (br_f (by decide) (br_f (by decide) (br_f (by decide) (LIN (by decide)))))))
  | 8, _ => exact br_f (by decide) (br_f (by decide) (br_f (by decide) (br_f (by decide) (br_f (by decide) (br_f (by decide) (LIN (by decide)))))))
  | 9, _ => exact absurd o3 (fun z => z)
  | 10, _ => exact br_f (by decide) (br_f (by decide) (br_f (by decide) (br_f (by decide) (br_f (by decide) (br_f (by decide) (LIN (by decide)))))))
  | 11, _ => exact absurd rfl h11
  | 12, _ => exact br_f (by decide) (br_f (by decide) (br_f (by decide) (br_f (by decide) (br_f (by decide) (br_f (by decide) (LIN (by decide)))))))
  | 13, _ =>
    obtain ⟨ca, va, la⟩ := CA rfl
    obtain ⟨cb, vb, lb⟩ := CB rfl
    obtain ⟨pb, fb⟩ := hR b (o2 rfl)
    refine br_f (by decide) (br_f (by decide) (br_f (by decide) (br_f (by decide) (br_f (by decide) (br_t rfl ?_)))))
    rw [E1 rfl, E2 rfl, cb]
    refine ⟨vb, gc_opt_cases pb hL.2.1 (fun s es ex s1 s2 => ⟨vb, hin, ?_⟩) (fun es ex => NONE (fun E he c => ?_))⟩
    · rw [ex]
      refine gc_make hL (by omega) (13, a, s, 0, w) ⟨(fun _ => la), (fun _ => s1), o3.1, s2.trans o3.2⟩ ?_ rfl rfl rfl rfl rfl
      intro r N' f' le' b7 b8 b9 b10 b11 h m
      refine hp (nI r) (some r) N' f' le' b7 b8 b9 b10 b11 h m.1 ⟨rfl, m.2.1, m.2.2.1⟩ (fun E he c => ?_) (fun t => m.2.2.2.2 t)
      have hb := fb E he c
      rw [es] at hb
      have hb' : (gc_val E f s c).1 = (gc_val E f b c).2.1 := hb
      show (gc_val E f' r c).1 = _
      rw [m.2.2.2.1 E, veq E]
      show (if 0 < (gc_val E f a c).1 then gc_val E f s c else gc_z).1 = (if 0 < (gc_val E f a c).1 then gc_val E f b c else gc_z).2.1
      by_cases hc : 0 < (gc_val E f a c).1
      · rw [if_pos hc, if_pos hc]
        exact hb'
      · rw [if_neg hc, if_neg hc]
        rfl
    · have hb := fb E he c
      rw [es] at hb
      have hb' : (0 : Int32) = (gc_val E f b c).2.1 := hb
      rw [veq E]
      show 0 = (if 0 < (gc_val E f a c).1 then gc_val E f b c else gc_z).2.1
      by_cases hc : 0 < (gc_val E f a c).1
      · rw [if_pos hc]
        exact hb'
      · rw [if_neg hc]
        rfl
  | 14, _ => exact br_f (by decide) (br_f (by decide) (br_f (by decide) (br_f (by decide) (br_f (by decide) (br_f (by decide) (LIN (by decide)))))))
theorem gc_forwards {post : Int32 → St1 → Prop} (hL : gc_L N f le a7 a8 a9 a10 a11) {r : Nat} (hr : r < N) (h11 : ∀ i, i ≤ r → gc_k (f i) ≠ 11) (hK : N + gc_S (gc_fc (fun _ => 1)) f (r + 1) + 8 ≤ 450)
    (hp : ∀ (x : Int32) (o : Option Nat) (N' : Nat) (f' : Nat → gc_Op) (le' : Int32) (b7 b8 b9 b10 b11 : Nat → Int32) (b13 : Nat → Int32), gc_L N' f' le' b7 b8 b9 b10 b11 → gc_X N f N' f' → gc_opt N' f' o x (gc_w (f r)) → gc_FW f' f r o → (∀ t, gc_S t f' N' ≤ gc_S t f N + gc_S (gc_fc t) f (r + 1)) → post x (nc, lv, le', fc, a1, a2, a3, a4, a5, a6, b7, b8, b9, b10, b11, a12, b13, a14, a15, a16, a17)) :
    wpX_forwards post (nc, lv, le, fc, a1, a2, a3, a4, a5, a6, a7, a8, a9, a10, a11, a12, a13, a14, a15, a16, a17) (nI r) := by
  have hN450 := hL.2.1
  unfold wpX_forwards
  refine pk_loop (σ := Int32 × (Nat → Int32) × (Nat → Int32) × (Nat → Int32) × (Nat → Int32) × (Nat → Int32) × (Nat → Int32))
    (fun n i s => wX_forwards_2 post (nI r) n (nI i) nc lv s.1 fc a1 a2 a3 a4 a5 a6 s.2.1 s.2.2.1 s.2.2.2.1 s.2.2.2.2.1 s.2.2.2.2.2.1 a12 s.2.2.2.2.2.2 a14 a15 a16 a17)
    (fun i s => ∃ (N' : Nat) (f' : Nat → gc_Op) (g : Nat → Option Nat), gc_L N' f' s.1 s.2.1 s.2.2.1 s.2.2.2.1 s.2.2.2.2.1 s.2.2.2.2.2.1 ∧ gc_X N f N' f' ∧ (∀ j, j < i → gc_opt N' f' (g j) (s.2.2.2.2.2.2 j) (gc_w (f' j)) ∧ gc_FW f' f' j (g j)) ∧ ∀ t, gc_S t f' N' ≤ gc_S t f N + gc_S (gc_fc t) f i) (r + 1) 0 (le, a7, a8, a9, a10, a11, a13) (by omega) ?_ ?_ ?_
  · exact ⟨N, f, (fun _ => none), hL, gc_X_refl N f, fun j hj => absurd hj (by omega), fun t => Nat.le_refl _⟩
  · rintro n ⟨le', b7, b8, b9, b10, b11, b13⟩ ⟨N', f', g, h, x, R, c⟩
    dsimp only at h R ⊢
    have hrc : (nI r).toNatClampNeg = r := nI_clamp (by omega)
    refine pk_lt r (r + 1) (fun _ => ⟨vp_in_nI (by omega) (by omega), ?_⟩) (fun z => absurd z (by omega))
    rw [hrc]
    obtain ⟨p, q⟩ := R r (Nat.lt_succ_self r)
    refine hp _ (g r) N' f' le' b7 b8 b9 b10 b11 b13 h x (by rw [← x.2 r hr]; exact p) (fun E he c => ?_) c
    rw [← gc_val_ext E x hr]
    exact q E he c
  · rintro n i ⟨le', b7, b8, b9, b10, b11, b13⟩ hi ⟨N', f', g, h, x, R, c⟩ hw
    dsimp only at h R hw ⊢
    have hN2 := h.2.1
    have hic : (nI i).toNatClampNeg = i := nI_clamp (by omega)
    have room : N' + 8 ≤ 450 := by
      have := c (fun _ => 1)
      rw [gc_S_one, gc_S_one] at this
      have := gc_S_mono (gc_fc (fun _ => 1)) f (show i ≤ r + 1 by omega)
      omega
    have hiN : i < N := by omega
    have hiN' : i < N' := Nat.lt_of_lt_of_le hiN x.1
    have hfi : f' i = f i := x.2 i hiN
    refine pk_lt r i (fun z => absurd z (by omega)) (fun _ => ?_)
    refine gc_moved h room hiN' R (by rw [hfi]; exact h11 i (by omega)) ?_
    intro y o N2 f2 le2 c7 c8 c9 c10 c11 h2 x2 o2 w2 k2
    have hN3 := h2.2.1
    have sh : y.toInt16.toInt32 = y := by
      match o, o2 with
      | none, o2 =>
        have e : y = -1 := o2
        rw [e]
        decide
      | some q, o2 =>
        rw [o2.1]
        exact gc_sh q (by have := o2.2.1; omega)
    refine ⟨vp_in_nI (by omega) (by omega), nm_e (nm_r (nI_1 i) ?_)⟩
    rw [hic, sh]
    refine hw (le2, c7, c8, c9, c10, c11, upd b13 i y) ⟨N2, f2, (fun j => if j = i then o else g j), h2, gc_X_trans x x2, fun j hj => ?_, fun t => ?_⟩
    · by_cases e : j = i
      · subst e
        show gc_opt N2 f2 (if j = j then o else g j) (upd b13 j y j) _ ∧ gc_FW f2 f2 j (if j = j then o else g j)
        rw [if_pos rfl, pk_us, x2.2 j hiN']
        refine ⟨o2, fun E he c => ?_⟩
        rw [gc_val_ext E x2 hiN']
        exact w2 E he c
      · obtain ⟨p, q⟩ := R j (by omega)
        have hjN : j < N' := by omega
        show gc_opt N2 f2 (if j = i then o else g j) (upd b13 i y j) _ ∧ gc_FW f2 f2 j (if j = i then o else g j)
        rw [if_neg e, pk_un e, x2.2 j hjN]
        refine ⟨gc_opt_ext x2 p, fun E he c => ?_⟩
        rw [gc_val_ext E x2 hjN, gc_rv_ext E x2 p]
        exact q E he c
    · have y1 := c t
      have y2 := k2 t
      rw [hfi] at y2
      show _ ≤ _ + (gc_S (gc_fc t) f i + gc_fc t (gc_k (f i)))
      omega
end
end
section
section
variable {nc lv le fc : Int32} {a1 a2 a3 a4 a5 a6 a7 a8 a9 a10 a11 a12 a13 a14 a15 a16 a17 : Nat → Int32}
variable {N : Nat} {f : Nat → gc_Op}
def gc_en (o : Option Nat) : Int32 :=
  match o with
  | none => -1
  | some u => nI u
theorem gc_en_cases {o : Option Nat} {x : Int32} (h : x = gc_en o) (hb : ∀ u, o = some u → u ≤ 450) {A B : Prop} (hs : ∀ u, o = some u → A) (hn : o = none → B) : (0 ≤ x → A) ∧ (¬ 0 ≤ x → B) := by
  match o, h, hb, hs, hn with
  | none, h, _, _, hn =>
    have e : x = -1 := h
    exact br_f (by rw [e]; exact gc_le_neg) (hn rfl)
  | some u, h, hb, hs, _ =>
    have e : x = nI u := h
    exact br_t (by rw [e]; exact nI_pos' (by have := hb u rfl; omega)) (hs u rfl)
/-- p is a part of operation i -/
def gc_par (f : Nat → gc_Op) (i p : Nat) : Prop := (gc_u1 (gc_k (f i)) = true ∧ p = gc_a (f i)) ∨ (gc_u2 (gc_k (f i)) = true ∧ p = gc_b (f i))
theorem gc_par_lt {i p : Nat} (ok : gc_OK f i (f i)) (h : gc_par f i p) : p < i := by
  rcases h with ⟨u, e⟩ | ⟨u, e⟩
  · rw [e]; exact ok.1 u
  · rw [e]; exact ok.2.1 u
/-- last uses, as far as the operations from m on tell -/
def gc_LI (f : Nat → gc_Op) (r m : Nat) (A : Nat → Nat → Prop) (lu : Nat → Option Nat) : Prop :=
  lu r = some 450 ∧ (∀ j u, j < r → lu j = some u → m ≤ u ∧ j < u ∧ u ≤ r ∧ lu u ≠ none ∧ gc_par f u j) ∧ ∀ i p, A i p → i ≤ r → lu i ≠ none → gc_par f i p → ∃ u, lu p = some u ∧ i ≤ u
theorem gc_LI_b {r m : Nat} {A : Nat → Nat → Prop} {lu : Nat → Option Nat} (h : gc_LI f r m A lu) (hr : r < 450) : ∀ j, j ≤ r → ∀ u, lu j = some u → u ≤ 450 := by
  intro j hj u hu
  by_cases e : j = r
  · subst e
    rw [h.1] at hu
    cases hu
    exact Nat.le_refl _
  · have := h.2.1 j u (by omega) hu
    omega
/-- marking a part p of m -/
def gc_mark (lu : Nat → Option Nat) (p m : Nat) : Nat → Option Nat := fun j => if j = p ∧ lu p = none then some m else lu j
theorem gc_mark_keep {lu : Nat → Option Nat} {p m j u : Nat} (h : lu j = some u) : gc_mark lu p m j = some u := by
  show (if j = p ∧ lu p = none then some m else lu j) = some u
  rw [if_neg (fun z => ?_)]
  · exact h
  · obtain ⟨e, n⟩ := z
    rw [e, n] at h
    exact absurd h.symm (Option.some_ne_none u)
theorem gc_mark_LI {r m p : Nat} {A : Nat → Nat → Prop} {lu : Nat → Option Nat} (h : gc_LI f r m A lu) (hm : m ≤ r) (hp : p < m) (hpar : gc_par f m p) (hlm : lu m ≠ none) (hA : ∀ i q, A i q → m ≤ i) :
    gc_LI f r m (fun i q => A i q ∨ (i = m ∧ q = p)) (gc_mark lu p m) := by
  have ne : ∀ j, lu j ≠ none → gc_mark lu p m j ≠ none := by
    intro j hj
    cases e : lu j with
    | none => exact absurd e hj
    | some u =>
      rw [gc_mark_keep e]
      exact Option.some_ne_none u
  have back : ∀ j, j ≠ p → gc_mark lu p m j = lu j := by
    intro j hj
    exact if_neg (fun z => hj z.1)
  refine ⟨gc_mark_keep h.1, fun j u hj hu => ?_, fun i q hiq hi hne hpq => ?_⟩
  · by_cases e : j = p ∧ lu p = none
    · have : gc_mark lu p m j = some m := if_pos e
      rw [this] at hu
      cases hu
      rw [e.1]
      exact ⟨Nat.le_refl _, hp, hm, ne m hlm, hpar⟩
    · have : gc_mark lu p m j = lu j := if_neg e
      rw [this] at hu
      obtain ⟨h1, h2, h3, h4, h5⟩ := h.2.1 j u hj hu
      exact ⟨h1, h2, h3, ne u h4, h5⟩
  · have hmi : m ≤ i := by
      rcases hiq with a | ⟨a, _⟩
      · exact hA i q a
      · omega
    have hi0 : lu i ≠ none := by
      rw [back i (by omega)] at hne
      exact hne
    rcases hiq with a | ⟨a, b⟩
    · obtain ⟨u, hu, hiu⟩ := h.2.2 i q a hi hi0 hpq
      exact ⟨u, gc_mark_keep hu, hiu⟩
    · subst a b
      cases e : lu q with
      | none => exact ⟨i, if_pos ⟨rfl, e⟩, Nat.le_refl _⟩
      | some u =>
        have := h.2.1 q u (by omega) e
        exact ⟨u, gc_mark_keep e, this.1⟩
def gc_enc (r : Nat) (lu : Nat → Option Nat) (a13 : Nat → Int32) : Prop := ∀ j, j ≤ r → a13 j = gc_en (lu j)
/-- the raw step that marks -/
theorem gc_enc_mark {r p m : Nat} {lu : Nat → Option Nat} (h : gc_enc r lu a13) (hn : lu p = none) : gc_enc r (gc_mark lu p m) (upd a13 p (nI m)) := by
  intro j hj
  by_cases e : j = p
  · subst e
    rw [pk_us]
    show nI m = gc_en (if j = j ∧ lu j = none then some m else lu j)
    rw [if_pos ⟨rfl, hn⟩]
    rfl
  · rw [pk_un e]
    show a13 j = gc_en (if j = p ∧ lu p = none then some m else lu j)
    rw [if_neg (fun z => e z.1)]
    exact h j hj
theorem gc_mark_id {lu : Nat → Option Nat} {p m u : Nat} (h : lu p = some u) : gc_mark lu p m = lu := by
  funext j
  show (if j = p ∧ lu p = none then some m else lu j) = lu j
  exact if_neg (fun z => by rw [h] at z; exact Option.some_ne_none u z.2)
theorem gc_flu83 {post : St1 → Prop} {J : Int32 → (Nat → Int32) → (Nat → Int32) → (Nat → Int32) → (Nat → Int32) → (Nat → Int32) → (Nat → Int32) → (Nat → Int32) → (Nat → Int32) → (Nat → Int32) → (Nat → Int32) → (Nat → Int32) → (Nat → Int32) → (Nat → Int32) → (Nat → Int32) → (Nat → Int32) → (Nat → Int32) → (Nat → Int32) → Prop}
    (hL : gc_L N f le a7 a8 a9 a10 a11) {r m : Nat} (hr : r < N) (hm : m ≤ r) {A : Nat → Nat → Prop} {lu : Nat → Option Nat} (hI : gc_LI f r m A lu) (hA : ∀ i q, A i q → m ≤ i) (hlm : lu m ≠ none) (henc : gc_enc r lu a13)
    (hp : ∀ (lu' : Nat → Option Nat) (b13 : Nat → Int32), gc_enc r lu' b13 → gc_LI f r m (fun i q => A i q ∨ (i = m ∧ gc_u2 (gc_k (f m)) = true ∧ q = gc_b (f m))) lu' → J (nI m + (-1)) a1 a2 a3 a4 a5 a6 a7 a8 a9 a10 a11 a12 b13 a14 a15 a16 a17) :
    wX_findLastUses_83 post J (nI m) nc lv le fc a1 a2 a3 a4 a5 a6 a7 a8 a9 a10 a11 a12 a13 a14 a15 a16 a17 := by
  have hN := hL.2.1
  have hc : (nI m).toNatClampNeg = m := nI_clamp (by omega)
  have hin : vp_in (nI m) 450 := vp_in_nI (by omega) (by omega)
  obtain ⟨⟨_, _, r2, _, _⟩, ok⟩ := hL.2.2 m (by omega)
  unfold wX_findLastUses_83
  rw [hc, r2]
  refine ⟨hin, ?_⟩
  by_cases u : gc_u2 (gc_k (f m)) = true
  · have hb := ok.2.1 u
    have e2 : gc_e2 (f m) = nI (gc_b (f m)) := by unfold gc_e2; exact if_pos u
    have hcb : (nI (gc_b (f m))).toNatClampNeg = gc_b (f m) := nI_clamp (by omega)
    have hinb : vp_in (nI (gc_b (f m))) 450 := vp_in_nI (by omega) (by omega)
    have MK := gc_mark_LI hI hm hb (Or.inr ⟨u, rfl⟩) hlm hA
    have MK' : gc_LI f r m (fun i q => A i q ∨ (i = m ∧ gc_u2 (gc_k (f m)) = true ∧ q = gc_b (f m))) (gc_mark lu (gc_b (f m)) m) := by
      refine ⟨MK.1, MK.2.1, fun i q h => MK.2.2 i q ?_⟩
      rcases h with h | h
      · exact Or.inl h
      · exact Or.inr ⟨h.1, h.2.2⟩
    rw [e2, hcb]
    refine br_f (nI_pos (by omega)) ⟨hin, hinb, gc_en_cases (henc (gc_b (f m)) (by omega)) (gc_LI_b hI (by omega) _ (by omega)) (fun v hv => nm_e ?_) (fun hn => ⟨hin, hinb, nm_e (nm_e ?_)⟩)⟩
    · rw [gc_mark_id hv] at MK'
      exact hp lu a13 henc MK'
    · rw [gc_sh m (by omega)]
      exact hp _ _ (gc_enc_mark henc hn) MK'
  · have e2 : gc_e2 (f m) = -1 := by unfold gc_e2; exact if_neg u
    rw [e2]
    refine br_t (by decide) (nm_e ?_)
    refine hp lu a13 henc ⟨hI.1, hI.2.1, fun i q h => hI.2.2 i q ?_⟩
    rcases h with h | h
    · exact h
    · exact absurd h.2.1 u
/-- last uses: the result is kept to the end; an operation's last use is one that is needed and has it as a part; parts of what is needed are needed, and used last no earlier -/
def gc_LU (f : Nat → gc_Op) (r : Nat) (lu : Nat → Option Nat) : Prop :=
  lu r = some 450 ∧ (∀ j u, j < r → lu j = some u → j < u ∧ u ≤ r ∧ lu u ≠ none ∧ gc_par f u j) ∧ ∀ i p, i ≤ r → lu i ≠ none → gc_par f i p → ∃ u, lu p = some u ∧ i ≤ u
theorem gc_flu31 {post : St1 → Prop} (hL : gc_L N f le a7 a8 a9 a10 a11) {r : Nat} (hr : r < N)
    (hp : ∀ (lu : Nat → Option Nat) (b13 : Nat → Int32), gc_enc r lu b13 → gc_LU f r lu → post (nc, lv, le, fc, a1, a2, a3, a4, a5, a6, a7, a8, a9, a10, a11, a12, b13, a14, a15, a16, a17))
    {lu : Nat → Option Nat} (henc : gc_enc r lu a13) (hI : gc_LI f r (r + 1) (fun i _ => r + 1 ≤ i) lu) : ∃ n, wX_findLastUses_31 post nc lv le fc n (nI r) a1 a2 a3 a4 a5 a6 a7 a8 a9 a10 a11 a12 a13 a14 a15 a16 a17 := by
  have hN := hL.2.1
  have key := pk_loopD (σ := Nat → Int32) (fun n m s => wX_findLastUses_31 post nc lv le fc n (nI m + (-1)) a1 a2 a3 a4 a5 a6 a7 a8 a9 a10 a11 a12 s a14 a15 a16 a17) (fun m s => m ≤ r + 1 ∧ ∃ lu, gc_enc r lu s ∧ gc_LI f r m (fun i _ => m ≤ i) lu) ?_ ?_ (r + 1) a13 ⟨Nat.le_refl _, lu, henc, hI⟩
  · rw [pk_m1] at key
    exact ⟨_, key⟩
  · rintro n s ⟨_, lu, he, h⟩
    exact br_t (by decide) (hp lu s he ⟨h.1, fun j u hj hu => (h.2.1 j u hj hu).2, fun i p hi hne hpar => h.2.2 i p (Nat.zero_le _) hi hne hpar⟩)
  · rintro n m s ⟨hm, lu, he, h⟩ hw
    have hmr : m ≤ r := by omega
    have hc : (nI m).toNatClampNeg = m := nI_clamp (by omega)
    have hin : vp_in (nI m) 450 := vp_in_nI (by omega) (by omega)
    obtain ⟨⟨_, r1, _, _, _⟩, ok⟩ := hL.2.2 m (by omega)
    have h' : gc_LI f r m (fun i _ => m + 1 ≤ i) lu := ⟨h.1, fun j u hj hu => by have := h.2.1 j u hj hu; exact ⟨by omega, this.2⟩, h.2.2⟩
    rw [pk_m1]
    unfold wX_findLastUses_31
    refine br_f (nI_pos (by omega)) ⟨hin, ?_⟩
    rw [hc, r1]
    refine gc_en_cases (he m hmr) (gc_LI_b h (by omega) m hmr) (fun v hv => ⟨hin, ?_⟩) (fun hn => nm_e ?_)
    · have hlm : lu m ≠ none := by rw [hv]; exact Option.some_ne_none v
      by_cases u : gc_u1 (gc_k (f m)) = true
      · have ha := ok.1 u
        have e1 : gc_e1 (f m) = nI (gc_a (f m)) := by unfold gc_e1; exact if_pos u
        have hca : (nI (gc_a (f m))).toNatClampNeg = gc_a (f m) := nI_clamp (by omega)
        have hina : vp_in (nI (gc_a (f m))) 450 := vp_in_nI (by omega) (by omega)
        have MK := gc_mark_LI h' hmr ha (Or.inl ⟨u, rfl⟩) hlm (fun i q z => by omega)
        have ne : gc_mark lu (gc_a (f m)) m m ≠ none := by rw [gc_mark_keep hv]; exact Option.some_ne_none v
        have NEXT : ∀ s', gc_enc r (gc_mark lu (gc_a (f m)) m) s' → wX_findLastUses_83 post (wX_findLastUses_31 post nc lv le fc n) (nI m) nc lv le fc a1 a2 a3 a4 a5 a6 a7 a8 a9 a10 a11 a12 s' a14 a15 a16 a17 := by
          intro s' he'
          refine gc_flu83 hL hr hmr MK (fun i q z => by omega) ne he' ?_
          intro lu' b13 he2 h2
          refine hw b13 ⟨by omega, lu', he2, h2.1, h2.2.1, fun i p hi hir hne hpar => ?_⟩
          refine h2.2.2 i p ?_ hir hne hpar
          by_cases e : i = m
          · subst e
            rcases hpar with ⟨q1, q2⟩ | ⟨q1, q2⟩
            · exact Or.inl (Or.inr ⟨rfl, q2⟩)
            · exact Or.inr ⟨rfl, q1, q2⟩
          · exact Or.inl (Or.inl (by omega))
        rw [e1, hca]
        refine br_f (nI_pos (by omega)) ⟨hin, hina, gc_en_cases (he (gc_a (f m)) (by omega)) (gc_LI_b h (by omega) _ (by omega)) (fun v' hv' => ?_) (fun hn => ⟨hin, hina, nm_e ?_⟩)⟩
        · refine NEXT s ?_
          rw [gc_mark_id hv']
          exact he
        · rw [gc_sh m (by omega)]
          exact NEXT _ (gc_enc_mark he hn)
      · have e1 : gc_e1 (f m) = -1 := by unfold gc_e1; exact if_neg u
        rw [e1]
        refine br_t (by decide) ?_
        refine gc_flu83 hL hr hmr h' (fun i q z => by omega) hlm he ?_
        intro lu' b13 he2 h2
        refine hw b13 ⟨by omega, lu', he2, h2.1, h2.2.1, fun i p hi hir hne hpar => ?_⟩
        refine h2.2.2 i p ?_ hir hne hpar
        by_cases e : i = m
        · subst e
          rcases hpar with ⟨q1, q2⟩ | ⟨q1, q2⟩
          · exact absurd q1 u
          · exact Or.inr ⟨rfl, q1, q2⟩
        · exact Or.inl (by omega)
    · refine hw s ⟨by omega, lu, he, h'.1, h'.2.1, fun i p hi hir hne hpar => ?_⟩
      by_cases e : i = m
      · subst e
        exact absurd hn hne
      · exact h'.2.2 i p (by omega) hir hne hpar
theorem gc_findLastUses {post : St1 → Prop} (hL : gc_L N f le a7 a8 a9 a10 a11) {r : Nat} (hr : r < N)
    (hp : ∀ (lu : Nat → Option Nat) (b13 : Nat → Int32), gc_enc r lu b13 → gc_LU f r lu → post (nc, lv, le, fc, a1, a2, a3, a4, a5, a6, a7, a8, a9, a10, a11, a12, b13, a14, a15, a16, a17)) : wpX_findLastUses post (nc, lv, le, fc, a1, a2, a3, a4, a5, a6, a7, a8, a9, a10, a11, a12, a13, a14, a15, a16, a17) (nI r) := by
  have hN := hL.2.1
  unfold wpX_findLastUses
  refine pk_loop (σ := Nat → Int32) (fun n i s => wX_findLastUses_2 post (nI r) nc lv le fc n (nI i) a1 a2 a3 a4 a5 a6 a7 a8 a9 a10 a11 a12 s a14 a15 a16 a17) (fun i s => ∀ k, k < i → s k = -1) (r + 1) 0 a13 (by omega) (fun k hk => absurd hk (by omega)) ?_ ?_
  · intro n s hs
    have hrc : (nI r).toNatClampNeg = r := nI_clamp (by omega)
    refine pk_lt r (r + 1) (fun _ => ⟨vp_in_nI (by omega) (by omega), nm_e ?_⟩) (fun z => absurd z (by omega))
    rw [hrc]
    refine gc_flu31 hL hr hp (lu := fun j => if j = r then some 450 else none) (fun j hj => ?_) ⟨if_pos rfl, fun j u hj hu => ?_, fun i p hi hir => absurd hir (by omega)⟩
    · by_cases e : j = r
      · subst e
        rw [pk_us]
        dsimp only
        rw [if_pos rfl]
        rfl
      · rw [pk_un e]
        dsimp only
        rw [if_neg e]
        exact hs j (by omega)
    · dsimp only at hu
      rw [if_neg (show ¬ j = r by omega)] at hu
      exact absurd hu.symm (Option.some_ne_none u)
  · intro n i s hi hs hw
    refine pk_lt r i (fun z => absurd z (by omega)) (fun _ => ⟨vp_in_nI (by omega) (by omega), nm_e (nm_r (nI_1 i) (hw _ (fun k hk => ?_)))⟩)
    rw [nI_clamp (by omega)]
    by_cases e : k = i
    · rw [e]
      exact pk_us
    · rw [pk_un e]
      exact hs k (by omega)
end
end
section
section
variable {nc lv le fc : Int32} {a1 a2 a3 a4 a5 a6 a7 a8 a9 a10 a11 a12 a13 a14 a15 a16 a17 : Nat → Int32}
variable {N : Nat} {f : Nat → gc_Op}
/-- an example as an env -/
def gc_Ee (a5 a6 : Nat → Int32) (e : Nat) : gc_E := (fun k c => a5 (12 * e + 4 * k + c), fun k c => a6 (12 * e + 4 * k + c), fun _ _ => 0, fun _ _ => 0)
/-- four lanes from q on hold a value -/
def gc_B4 (v : gc_V) (w : Bool) (a17 : Nat → Int32) (q : Nat) : Prop := ∀ c, c < 4 → (w = false → c = 0) → a17 (q + c) = (v c).1
def gc_out (q : Nat) (a17 b17 : Nat → Int32) : Prop := ∀ j, (j < q ∨ q + 4 ≤ j) → b17 j = a17 j
theorem gc_out_refl (q : Nat) (a : Nat → Int32) : gc_out q a a := fun _ _ => rfl
theorem gc_out_upd {q c : Nat} {a b : Nat → Int32} {x : Int32} (h : gc_out q a b) (hc : c < 4) : gc_out q a (upd b (q + c) x) := by
  intro j hj
  rw [pk_un (by omega)]
  exact h j hj
/-- part p can be read in example e: its slot isn't s0 -/
def gc_RD (E : gc_E) (f : Nat → gc_Op) (a16 a17 : Nat → Int32) (s0 e p : Nat) : Prop := ∃ s, a16 p = nI s ∧ s < 160 ∧ s ≠ s0 ∧ gc_B4 (gc_val E f p) (gc_w (f p)) a17 (12 * s + 4 * e)
theorem gc_RD_keep {E : gc_E} {b17 : Nat → Int32} {s0 e p : Nat} (h : gc_RD E f a16 a17 s0 e p) (ho : gc_out (12 * s0 + 4 * e) a17 b17) : gc_RD E f a16 b17 s0 e p := by
  obtain ⟨s, h1, h2, h3, h4⟩ := h
  refine ⟨s, h1, h2, h3, fun c hc hw => ?_⟩
  rw [ho _ (by omega)]
  exact h4 c hc hw
theorem gc_ix (s e c : Nat) : ((12 * nI s) + (4 * nI e)) + nI c = nI (12 * s + 4 * e + c) := by
  have h1 : (12 : Int32) * nI s = nI (12 * s) := pk_mul 12 s
  have h2 : (4 : Int32) * nI e = nI (4 * e) := pk_mul 4 e
  rw [h1, h2, nI_add, nI_add]
theorem gc_lane0 {post : Int32 → Prop} (hL : gc_L N f le a7 a8 a9 a10 a11) {i s e c : Nat} (hi : i < N) (hs : a16 i = nI s) (hs2 : s < 160) (he : e < 3) (hc : c < 4) {v : gc_V} (hb : gc_B4 v (gc_w (f i)) a17 (12 * s + 4 * e)) (fl : gc_w (f i) = false → ∀ c d, v c = v d) (hp : post (v c).1) :
    vp_in (nI i) 450 ∧ (vp_in (nI i) 450 ∧ (((a11 (nI i).toNatClampNeg = 0 → (vp_in (((12 * (a16 (nI i).toNatClampNeg)) + (4 * nI e)) + 0) 1920 ∧ (post (a17 (((12 * (a16 (nI i).toNatClampNeg)) + (4 * nI e)) + 0).toNatClampNeg)))) ∧ (¬ a11 (nI i).toNatClampNeg = 0 → (vp_in (((12 * (a16 (nI i).toNatClampNeg)) + (4 * nI e)) + nI c) 1920 ∧ (post (a17 (((12 * (a16 (nI i).toNatClampNeg)) + (4 * nI e)) + nI c).toNatClampNeg))))))) := by
  have hN := hL.2.1
  have hic : (nI i).toNatClampNeg = i := nI_clamp (by omega)
  have hin : vp_in (nI i) 450 := vp_in_nI (by omega) (by omega)
  have r4 : a11 i = gc_B (gc_w (f i)) := ((hL.2.2 i hi).1).2.2.2.2
  have i0 : ((12 * nI s) + (4 * nI e)) + 0 = nI (12 * s + 4 * e + 0) := gc_ix s e 0
  rw [hic, hs, r4, i0, gc_ix]
  refine ⟨hin, hin, br_c (fun z => ⟨vp_in_nI (by omega) (by omega), ?_⟩) (fun z => ⟨vp_in_nI (by omega) (by omega), ?_⟩)⟩
  · rw [nI_clamp (by omega), hb 0 (by omega) (fun _ => rfl), fl (gc_B0.mp z) 0 c]
    exact hp
  · rw [nI_clamp (by omega), hb c hc (fun y => absurd (gc_B0.mpr y) z)]
    exact hp
theorem gc_lane {post : Int32 → Prop} (hL : gc_L N f le a7 a8 a9 a10 a11) {i s e c : Nat} (hi : i < N) (hs : a16 i = nI s) (hs2 : s < 160) (he : e < 3) (hc : c < 4) {v : gc_V} (hb : gc_B4 v (gc_w (f i)) a17 (12 * s + 4 * e)) (fl : gc_w (f i) = false → ∀ c d, v c = v d) (hp : post (v c).1) :
    wpX_lane post (nc, lv, le, fc, a1, a2, a3, a4, a5, a6, a7, a8, a9, a10, a11, a12, a13, a14, a15, a16, a17) (nI i) (nI c) (nI e) := gc_lane0 hL hi hs hs2 he hc hb fl hp
theorem gc_laneOf {post : Int32 → Prop} (hL : gc_L N f le a7 a8 a9 a10 a11) {i s e c : Nat} (hi : i < N) (hs : a16 i = nI s) (hs2 : s < 160) (he : e < 3) (hc : c < 4) {v : gc_V} (hb : gc_B4 v (gc_w (f i)) a17 (12 * s + 4 * e)) (fl : gc_w (f i) = false → ∀ c d, v c = v d) (hp : post (v c).1) :
    wpX_laneOf post (nc, lv, le, fc, a1, a2, a3, a4, a5, a6, a7, a8, a9, a10, a11, a12, a13, a14, a15, a16, a17) (nI i) (nI c) (nI e) := gc_lane0 hL hi hs hs2 he hc hb fl hp
theorem gc_laneR {post : Int32 → Prop} (hL : gc_L N f le a7 a8 a9 a10 a11) {E : gc_E} {s0 e p c : Nat} (hpN : p < N) (he : e < 3) (hc : c < 4) (h : gc_RD E f a16 a17 s0 e p) (hp : post (gc_val E f p c).1) : wpX_lane post (nc, lv, le, fc, a1, a2, a3, a4, a5, a6, a7, a8, a9, a10, a11, a12, a13, a14, a15, a16, a17) (nI p) (nI c) (nI e) := by
  obtain ⟨s, h1, h2, _, h4⟩ := h
  exact gc_lane hL hpN h1 h2 he hc h4 (fun w => gc_flat E (fun i hi => (hL.2.2 i hi).2) p hpN w) hp
theorem gc_component {post : Int32 → Prop} (hL : gc_L N f le a7 a8 a9 a10 a11) {i : Nat} (hi : i < N) (hk : gc_k (f i) = 2 ∨ gc_k (f i) = 3 ∨ gc_k (f i) = 4 ∨ gc_k (f i) = 6 ∨ gc_k (f i) = 8 ∨ gc_k (f i) = 12 ∨ gc_k (f i) = 13) {E : gc_E} {s0 e c : Nat} (he : e < 3) (hc : c < 4)
    (hrd : ∀ p, gc_par f i p → gc_RD E f a16 a17 s0 e p) (hp : post (gc_val E f i c).1) : wpX_component post (nc, lv, le, fc, a1, a2, a3, a4, a5, a6, a7, a8, a9, a10, a11, a12, a13, a14, a15, a16, a17) (nI i) (nI c) (nI e) := by
  have hN := hL.2.1
  have hic : (nI i).toNatClampNeg = i := nI_clamp (by omega)
  have hin : vp_in (nI i) 450 := vp_in_nI (by omega) (by omega)
  obtain ⟨⟨r0, r1, r2, r3, _⟩, ok⟩ := hL.2.2 i hi
  have veq := gc_val_eq E ok
  unfold wpX_component
  dsimp only
  rw [hic, r0, r1, r2, r3]
  clear r0 r1 r2 r3
  have PA : gc_u1 (gc_k (f i)) = true → gc_a (f i) < N ∧ gc_e1 (f i) = nI (gc_a (f i)) ∧ gc_RD E f a16 a17 s0 e (gc_a (f i)) := fun u => ⟨by have := ok.1 u; omega, by unfold gc_e1; exact if_pos u, hrd _ (Or.inl ⟨u, rfl⟩)⟩
  have PB : gc_u2 (gc_k (f i)) = true → gc_b (f i) < N ∧ gc_e2 (f i) = nI (gc_b (f i)) ∧ gc_RD E f a16 a17 s0 e (gc_b (f i)) := fun u => ⟨by have := ok.2.1 u; omega, by unfold gc_e2; exact if_pos u, hrd _ (Or.inr ⟨u, rfl⟩)⟩
  have o3 := ok.2.2
  rcases hf : f i with ⟨k, a, b, n, w⟩
  rw [hf] at hk veq PA PB o3
  dsimp only [gc_k, gc_a, gc_b, gc_n, gc_w, gc_sem] at hk veq PA PB o3 ⊢
  refine ⟨hin, nm_e ⟨hin, nm_e ?_⟩⟩
  rcases hk with e1 | e1 | e1 | e1 | e1 | e1 | e1 <;> subst e1
  · obtain ⟨la, ea, ra⟩ := PA rfl
    obtain ⟨lb, eb, rb⟩ := PB rfl
    rw [ea, eb]
    refine br_f (by decide) (br_f (by decide) (gc_laneR hL la he hc ra (br_f (by decide) ⟨hin, gc_laneR hL lb he hc rb ?_⟩)))
    rw [veq] at hp
    exact br_t rfl hp
  · obtain ⟨la, ea, ra⟩ := PA rfl
    obtain ⟨lb, eb, rb⟩ := PB rfl
    rw [ea, eb]
    refine br_f (by decide) (br_f (by decide) (gc_laneR hL la he hc ra (br_f (by decide) ⟨hin, gc_laneR hL lb he hc rb ?_⟩)))
    rw [veq] at hp
    exact br_f (by decide) (br_t rfl hp)
  · obtain ⟨la, ea, ra⟩ := PA rfl
    obtain ⟨lb, eb, rb⟩ := PB rfl
    rw [ea, eb]
    refine br_f (by decide) (br_f (by decide) (gc_laneR hL la he hc ra (br_f (by decide) ⟨hin, gc_laneR hL lb he hc rb ?_⟩)))
    rw [veq] at hp
    exact br_f (by decide) (br_f (by decide) (br_t rfl hp))
  · obtain ⟨la, ea, ra⟩ := PA rfl
    obtain ⟨_, _, j, hj0, hj, hn⟩ := o3
    subst hn
    have an : (nI c + nI j) &&& 3 = nI ((c + j) % 4) := by
      rw [nI_add]
      exact pk_andN (by omega) 2 (by decide)
    rw [ea, an]
    refine br_t rfl ⟨hin, gc_laneR hL la he (Nat.mod_lt _ (by omega)) ra ?_⟩
    have t : (gc_val E f i c).1 = (gc_val E f a ((c + (nI j).toNatClampNeg) % 4)).1 := by rw [veq]; rfl
    rw [gc_clamp_lt (by omega)] at t
    rw [← t]
    exact hp
  · obtain ⟨la, ea, ra⟩ := PA rfl
    rw [ea]
    refine br_f (by decide) (br_f (by decide) (gc_laneR hL la he hc ra (br_t rfl ?_)))
    rw [veq] at hp
    exact hp
  · obtain ⟨la, ea, ra⟩ := PA rfl
    obtain ⟨_, _, j, hj, hn⟩ := o3
    subst hn
    rw [ea]
    have t : gc_val E f i c = if c = (nI j).toNatClampNeg then gc_val E f a 0 else gc_z := by rw [veq]; rfl
    rw [gc_clamp_lt (by omega)] at t
    refine br_f (by decide) (br_t rfl ⟨hin, pk_eq c j (fun z => ?_) (fun z => ?_)⟩)
    · rw [if_pos z] at t
      rw [t] at hp
      exact gc_laneR (c := 0) hL la he (by omega) ra hp
    · rw [if_neg z] at t
      rw [t] at hp
      exact hp
  · obtain ⟨la, ea, ra⟩ := PA rfl
    obtain ⟨lb, eb, rb⟩ := PB rfl
    rw [ea, eb]
    refine br_f (by decide) (br_f (by decide) (gc_laneR hL la he hc ra (br_f (by decide) ⟨hin, gc_laneR hL lb he hc rb ?_⟩)))
    have t : gc_val E f i c = if 0 < (gc_val E f a c).1 then gc_val E f b c else gc_z := by rw [veq]; rfl
    refine br_f (by decide) (br_f (by decide) (br_f (by decide) (br_c (fun z => ?_) (fun z => ?_))))
    · rw [if_neg (Int32.not_lt.mpr z)] at t
      rw [t] at hp
      exact hp
    · rw [if_pos (Int32.not_le.mp z)] at t
      rw [t] at hp
      exact hp
/-- sums on the way -/
def gc_rs (x : gc_V) : Nat → Int32
  | 0 => 0
  | k + 1 => (gc_run x k).1
theorem gc_rs_step (x : gc_V) (k : Nat) : gc_rs x k + (x k).1 = (gc_run x k).1 := by
  cases k with
  | zero => exact Int32.zero_add _
  | succ k => rfl
theorem gc_sumOf {post : Int32 → Prop} (hL : gc_L N f le a7 a8 a9 a10 a11) {E : gc_E} {s0 e p : Nat} (hpN : p < N) (he : e < 3) (h : gc_RD E f a16 a17 s0 e p) (hp : post (gc_s4 (gc_val E f p)).1) : wpX_sumOf post (nc, lv, le, fc, a1, a2, a3, a4, a5, a6, a7, a8, a9, a10, a11, a12, a13, a14, a15, a16, a17) (nI p) 3 (nI e) := by
  unfold wpX_sumOf
  refine pk_loop (σ := Int32) (fun n i s => wX_sumOf_6 post (nI p) 3 (nI e) nc lv le fc a1 a2 a3 a4 a5 a6 a7 a8 a9 a10 a11 a12 a13 a14 a15 a16 a17 n s (nI i)) (fun i s => s = gc_rs (gc_val E f p) i) 4 0 0 (by omega) rfl ?_ ?_
  · intro n s hs
    refine pk_lt 3 4 (fun _ => ?_) (fun z => absurd z (by omega))
    rw [hs]
    exact hp
  · intro n i s hi hs hw
    refine pk_lt 3 i (fun z => absurd z (by omega)) (fun _ => ?_)
    refine gc_laneR hL hpN he hi h ?_
    refine nm_e (nm_r (nI_1 i) (hw _ ?_))
    rw [hs]
    exact gc_rs_step _ _
theorem gc_loadT {post : St1 → Prop} {k e s0 : Nat} (hk : k < 3) (he : e < 3) (hs0 : s0 < 160) {what : Int32} {v : Nat → Int32} (hv : v = fun c => if what = 0 then a5 (12 * e + 4 * k + c) else a6 (12 * e + 4 * k + c))
    (hp : ∀ b17, gc_out (12 * s0 + 4 * e) a17 b17 → (∀ c, c < 4 → b17 (12 * s0 + 4 * e + c) = v c) → post (nc, lv, le, fc, a1, a2, a3, a4, a5, a6, a7, a8, a9, a10, a11, a12, a13, a14, a15, a16, b17)) : wpX_load post (nc, lv, le, fc, a1, a2, a3, a4, a5, a6, a7, a8, a9, a10, a11, a12, a13, a14, a15, a16, a17) what (nI k) (nI (12 * s0 + 4 * e)) (nI e) := by
  unfold wpX_load
  refine pk_loop (σ := Nat → Int32) (fun n i s => wX_load_3 post what (nI k) (nI (12 * s0 + 4 * e)) (nI e) nc lv le fc n (nI i) a1 a2 a3 a4 a5 a6 a7 a8 a9 a10 a11 a12 a13 a14 a15 a16 s) (fun i s => gc_out (12 * s0 + 4 * e) a17 s ∧ ∀ c, c < i → s (12 * s0 + 4 * e + c) = v c) 4 0 a17 (by omega) ⟨gc_out_refl _ _, fun c hc => absurd hc (by omega)⟩ ?_ ?_
  · rintro n s ⟨h1, h2⟩
    exact pk_le 4 4 (fun _ => hp s h1 h2) (fun z => absurd z (by omega))
  · rintro n i s hi ⟨h1, h2⟩ hw
    have ii : nI (12 * s0 + 4 * e) + nI i = nI (12 * s0 + 4 * e + i) := nI_add _ _
    have NX : ∀ x, x = v i → gc_out (12 * s0 + 4 * e) a17 (upd s (12 * s0 + 4 * e + i) x) ∧ ∀ c, c < i + 1 → upd s (12 * s0 + 4 * e + i) x (12 * s0 + 4 * e + c) = v c := by
      intro x hx
      refine ⟨gc_out_upd h1 hi, fun c hc => ?_⟩
      by_cases ec : c = i
      · rw [ec, pk_us, hx]
      · rw [pk_un (by omega)]
        exact h2 c (by omega)
    refine pk_le 4 i (fun z => absurd z (by omega)) (fun _ => ?_)
    rw [gc_ix, ii, nI_clamp (show 12 * e + 4 * k + i < 2 ^ 31 by omega), nI_clamp (show 12 * s0 + 4 * e + i < 2 ^ 31 by omega)]
    refine br_c (fun z => ⟨vp_in_nI (by omega) (by omega), vp_in_nI (by omega) (by omega), nm_e (nm_r (nI_1 i) (hw _ (NX _ ?_)))⟩) (fun z => ⟨vp_in_nI (by omega) (by omega), vp_in_nI (by omega) (by omega), nm_e (nm_r (nI_1 i) (hw _ (NX _ ?_)))⟩)
    · rw [hv]
      exact (if_pos z).symm
    · rw [hv]
      exact (if_neg z).symm
/-- running sums, in the order cf -/
theorem gc_runT {post : St1 → Prop} (hL : gc_L N f le a7 a8 a9 a10 a11) {E : gc_E} {s0 e p : Nat} (hs0 : s0 < 160) (hpN : p < N) (he : e < 3) (h : gc_RD E f a16 a17 s0 e p) {what : Int32} (cf : Nat → Nat) (hcf : ∀ k, k < 4 → cf k < 4) (hinj : ∀ j k, j < 4 → k < 4 → cf j = cf k → j = k) (hsur : ∀ c, c < 4 → ∃ j, j < 4 ∧ cf j = c)
    (hwh : ∀ k, k < 4 → (what = 10 → nI k = nI (cf k)) ∧ (¬ what = 10 → 3 - nI k = nI (cf k))) (P T : Nat → Int32) (h0 : P 0 = 0) (h1 : ∀ k, k < 4 → P k + (gc_val E f p (cf k)).1 = T (cf k)) (h2 : ∀ k, k < 4 → P (k + 1) = T (cf k))
    (hp : ∀ b17, gc_out (12 * s0 + 4 * e) a17 b17 → (∀ c, c < 4 → b17 (12 * s0 + 4 * e + c) = T c) → post (nc, lv, le, fc, a1, a2, a3, a4, a5, a6, a7, a8, a9, a10, a11, a12, a13, a14, a15, a16, b17)) : wpX_runAlong post (nc, lv, le, fc, a1, a2, a3, a4, a5, a6, a7, a8, a9, a10, a11, a12, a13, a14, a15, a16, a17) what (nI p) (nI (12 * s0 + 4 * e)) (nI e) := by
  unfold wpX_runAlong
  refine pk_loop (σ := Int32 × (Nat → Int32)) (fun n i s => wX_runAlong_6 post what (nI p) (nI (12 * s0 + 4 * e)) (nI e) nc lv le fc n s.1 (nI i) a1 a2 a3 a4 a5 a6 a7 a8 a9 a10 a11 a12 a13 a14 a15 a16 s.2) (fun i s => s.1 = P i ∧ gc_out (12 * s0 + 4 * e) a17 s.2 ∧ ∀ j, j < i → s.2 (12 * s0 + 4 * e + cf j) = T (cf j)) 4 0 (0, a17) (by omega) ⟨h0.symm, gc_out_refl _ _, fun c hc => absurd hc (by omega)⟩ ?_ ?_
  · rintro n ⟨x, s⟩ ⟨q1, q2, q3⟩
    refine pk_le 4 4 (fun _ => hp s q2 (fun c hc => ?_)) (fun z => absurd z (by omega))
    obtain ⟨j, hj, ej⟩ := hsur c hc
    rw [← ej]
    exact q3 j hj
  · rintro n i ⟨x, s⟩ hi ⟨q1, q2, q3⟩ hw
    dsimp only at q1 q2 q3 hw ⊢
    have ci := hcf i hi
    have STEP : ∀ z0, z0 = nI (cf i) → wX_runAlong_27 post (wX_runAlong_6 post what (nI p) (nI (12 * s0 + 4 * e)) (nI e) nc lv le fc n) what (nI p) (nI (12 * s0 + 4 * e)) (nI e) x (nI i) z0 nc lv le fc a1 a2 a3 a4 a5 a6 a7 a8 a9 a10 a11 a12 a13 a14 a15 a16 s := by
      intro z0 hz
      rw [hz]
      unfold wX_runAlong_27
      have ii : nI (12 * s0 + 4 * e) + nI (cf i) = nI (12 * s0 + 4 * e + cf i) := nI_add _ _
      refine gc_laneR hL hpN he ci (gc_RD_keep h q2) ?_
      refine nm_r (e' := T (cf i)) (by rw [q1]; exact h1 i hi) ?_
      rw [ii, nI_clamp (by omega)]
      refine ⟨vp_in_nI (by omega) (by omega), nm_e (nm_r (nI_1 i) ?_)⟩
      refine hw (T (cf i), upd s (12 * s0 + 4 * e + cf i) (T (cf i))) ⟨(h2 i hi).symm, gc_out_upd q2 ci, fun j hj => ?_⟩
      by_cases ej : j = i
      · rw [ej]
        exact pk_us
      · have : cf j ≠ cf i := fun z => ej (hinj j i (by omega) hi z)
        show upd s _ _ _ = _
        rw [pk_un (by omega)]
        exact q3 j (by omega)
    refine pk_le 4 i (fun z => absurd z (by omega)) (fun _ => br_c (fun z => STEP _ ((hwh i hi).1 z)) (fun z => STEP _ ((hwh i hi).2 z)))
end
end
section
section
variable {nc lv le fc : Int32} {a1 a2 a3 a4 a5 a6 a7 a8 a9 a10 a11 a12 a13 a14 a15 a16 a17 : Nat → Int32}
variable {N : Nat} {f : Nat → gc_Op}
theorem gc_one {w : Bool} {q : Nat} {v : gc_V} {x : Int32} (hw : w = false) (hx : x = (v 0).1) : gc_B4 v w (upd a17 q x) q := by
  intro c hc h0
  have e := h0 hw
  subst e
  rw [← hx]
  exact pk_us
theorem gc_out_one {q : Nat} {x : Int32} : gc_out q a17 (upd a17 q x) := gc_out_upd (c := 0) (gc_out_refl q a17) (by omega)
theorem gc_exec160 {post : St1 → Prop} (hL : gc_L N f le a7 a8 a9 a10 a11) {i s0 e : Nat} (hi : i < N) (hs0 : s0 < 160) (he : e < 3) (hk : gc_k (f i) = 2 ∨ gc_k (f i) = 3 ∨ gc_k (f i) = 4 ∨ gc_k (f i) = 6 ∨ gc_k (f i) = 8 ∨ gc_k (f i) = 12 ∨ gc_k (f i) = 13)
    {E : gc_E} (hrd : ∀ p, gc_par f i p → gc_RD E f a16 a17 s0 e p) {cn : Nat} (hcn : cn ≤ 4)
    (hp : ∀ b17, gc_out (12 * s0 + 4 * e) a17 b17 → (∀ c, c < cn → b17 (12 * s0 + 4 * e + c) = (gc_val E f i c).1) → post (nc, lv, le, fc, a1, a2, a3, a4, a5, a6, a7, a8, a9, a10, a11, a12, a13, a14, a15, a16, b17)) :
    ∃ n, wX_execute_160 post (nI i) (nI (12 * s0 + 4 * e)) (nI e) (nI cn) nc lv le fc n 0 a1 a2 a3 a4 a5 a6 a7 a8 a9 a10 a11 a12 a13 a14 a15 a16 a17 := by
  refine pk_loop (σ := Nat → Int32) (fun n c s => wX_execute_160 post (nI i) (nI (12 * s0 + 4 * e)) (nI e) (nI cn) nc lv le fc n (nI c) a1 a2 a3 a4 a5 a6 a7 a8 a9 a10 a11 a12 a13 a14 a15 a16 s) (fun c s => gc_out (12 * s0 + 4 * e) a17 s ∧ ∀ d, d < c → s (12 * s0 + 4 * e + d) = (gc_val E f i d).1) cn 0 a17 (by omega) ⟨gc_out_refl _ _, fun c hc => absurd hc (by omega)⟩ ?_ ?_
  · rintro n s ⟨h1, h2⟩
    exact pk_le cn cn (fun _ => hp s h1 h2) (fun z => absurd z (by omega))
  · rintro n c s hc ⟨h1, h2⟩ hw
    have ii : nI (12 * s0 + 4 * e) + nI c = nI (12 * s0 + 4 * e + c) := nI_add _ _
    refine pk_le cn c (fun z => absurd z (by omega)) (fun _ => ?_)
    refine gc_component hL hi hk he (by omega) (fun p hp => gc_RD_keep (hrd p hp) h1) ?_
    rw [ii, nI_clamp (show 12 * s0 + 4 * e + c < 2 ^ 31 by omega)]
    refine ⟨vp_in_nI (by omega) (by omega), nm_e (nm_r (nI_1 c) (hw _ ⟨gc_out_upd h1 (by omega), fun d hd => ?_⟩))⟩
    by_cases ed : d = c
    · rw [ed]
      exact pk_us
    · rw [pk_un (by omega)]
      exact h2 d (by omega)
/-- sums from the end, on the way -/
def gc_bs (x : gc_V) : Nat → Int32
  | 0 => 0
  | k + 1 => (gc_rub x (3 - k)).1
theorem gc_bs_step (x : gc_V) {k : Nat} (hk : k < 4) : gc_bs x k + (x (3 - k)).1 = (gc_rub x (3 - k)).1 := by
  match k, hk with
  | 0, _ => exact Int32.zero_add _
  | 1, _ => rfl
  | 2, _ => rfl
  | 3, _ => rfl
theorem gc_execute {post : St1 → Prop} (hL : gc_L N f le a7 a8 a9 a10 a11) {i s0 e : Nat} (hi : i < N) (hs0 : s0 < 160) (he : e < 3) (hrd : ∀ p, gc_par f i p → gc_RD (gc_Ee a5 a6 e) f a16 a17 s0 e p)
    (hp : ∀ b17, gc_out (12 * s0 + 4 * e) a17 b17 → gc_B4 (gc_val (gc_Ee a5 a6 e) f i) (gc_w (f i)) b17 (12 * s0 + 4 * e) → post (nc, lv, le, fc, a1, a2, a3, a4, a5, a6, a7, a8, a9, a10, a11, a12, a13, a14, a15, a16, b17)) :
    wpX_execute post (nc, lv, le, fc, a1, a2, a3, a4, a5, a6, a7, a8, a9, a10, a11, a12, a13, a14, a15, a16, a17) (nI i) (nI (12 * s0 + 4 * e)) (nI e) := by
  have hN := hL.2.1
  have hic : (nI i).toNatClampNeg = i := nI_clamp (by omega)
  have hin : vp_in (nI i) 450 := vp_in_nI (by omega) (by omega)
  have hqc : (nI (12 * s0 + 4 * e)).toNatClampNeg = 12 * s0 + 4 * e := nI_clamp (by omega)
  have hqin : vp_in (nI (12 * s0 + 4 * e)) 1920 := vp_in_nI (by omega) (by omega)
  obtain ⟨⟨r0, r1, r2, r3, r4⟩, ok⟩ := hL.2.2 i hi
  have veq := gc_val_eq (gc_Ee a5 a6 e) ok
  have PA : gc_u1 (gc_k (f i)) = true → gc_a (f i) < N ∧ gc_e1 (f i) = nI (gc_a (f i)) ∧ gc_RD (gc_Ee a5 a6 e) f a16 a17 s0 e (gc_a (f i)) := fun u => ⟨by have := ok.1 u; omega, by unfold gc_e1; exact if_pos u, hrd _ (Or.inl ⟨u, rfl⟩)⟩
  -- component by component
  have COMP : (gc_k (f i) = 2 ∨ gc_k (f i) = 3 ∨ gc_k (f i) = 4 ∨ gc_k (f i) = 6 ∨ gc_k (f i) = 8 ∨ gc_k (f i) = 12 ∨ gc_k (f i) = 13) →
      vp_in (nI i) 450 ∧ ((gc_B (gc_w (f i)) = 0 → ∃ n, wX_execute_160 post (nI i) (nI (12 * s0 + 4 * e)) (nI e) 1 nc lv le fc n 0 a1 a2 a3 a4 a5 a6 a7 a8 a9 a10 a11 a12 a13 a14 a15 a16 a17) ∧ (¬ gc_B (gc_w (f i)) = 0 → ∃ n, wX_execute_160 post (nI i) (nI (12 * s0 + 4 * e)) (nI e) 4 nc lv le fc n 0 a1 a2 a3 a4 a5 a6 a7 a8 a9 a10 a11 a12 a13 a14 a15 a16 a17)) := by
    intro hk
    refine ⟨hin, br_c (fun z => ?_) (fun z => ?_)⟩
    · exact gc_exec160 hL hi hs0 he hk hrd (cn := 1) (by omega) (fun b17 h1 h2 => hp b17 h1 (fun c hc hc0 => h2 c (by have := hc0 (gc_B0.mp z); omega)))
    · exact gc_exec160 hL hi hs0 he hk hrd (cn := 4) (by omega) (fun b17 h1 h2 => hp b17 h1 (fun c hc _ => h2 c hc))
  unfold wpX_execute
  dsimp only
  rw [hic, hqc, r0, r1, r3, r4]
  have o3 := ok.2.2
  clear r0 r1 r2 r3 r4
  rcases hf : f i with ⟨k, a, b, n, w⟩
  rw [hf] at veq PA COMP o3 hp
  dsimp only [gc_k, gc_a, gc_b, gc_n, gc_w, gc_sem] at veq PA COMP o3 hp ⊢
  have k15 := gc_k15 o3
  refine ⟨hin, nm_e ⟨hin, nm_e ⟨hin, nm_e ?_⟩⟩⟩
  match k, k15 with
  | 0, _ =>
    obtain ⟨hw, j, hj, hn⟩ := o3
    subst hw hn
    refine br_f (by decide) (br_t rfl ?_)
    unfold wX_execute_53
    refine gc_loadT hj he hs0 rfl ?_
    intro b17 h1 h2
    refine hp b17 h1 (fun c hc _ => ?_)
    rw [h2 c hc, veq]
    show (if (0 : Int32) = 0 then _ else _) = a5 (12 * e + 4 * (nI j).toNatClampNeg + c)
    rw [if_pos rfl, gc_clamp_lt (by omega)]
  | 1, _ =>
    have hw : w = false := o3
    refine br_t rfl ⟨hqin, nm_e ?_⟩
    refine hp _ gc_out_one (gc_one hw ?_)
    rw [veq]
    rfl
  | 2, _ => exact br_f (by decide) (br_f (by decide) (br_f (by decide) (br_f (by decide) (br_f (by decide) (br_f (by decide) (br_f (by decide) (COMP (by decide))))))))
  | 3, _ => exact br_f (by decide) (br_f (by decide) (br_f (by decide) (br_f (by decide) (br_f (by decide) (br_f (by decide) (br_f (by decide) (COMP (by decide))))))))
  | 4, _ => exact br_f (by decide) (br_f (by decide) (br_f (by decide) (br_f (by decide) (br_f (by decide) (br_f (by decide) (br_f (by decide) (COMP (by decide))))))))
  | 5, _ =>
    obtain ⟨hw, _⟩ := o3
    obtain ⟨la, ea, ra⟩ := PA rfl
    rw [ea]
    refine br_f (by decide) (br_f (by decide) (br_f (by decide) (br_t rfl ?_)))
    refine gc_sumOf hL la he ra ⟨hqin, nm_e ?_⟩
    refine hp _ gc_out_one (gc_one hw ?_)
    rw [veq]
    rfl
  | 6, _ => exact br_f (by decide) (br_f (by decide) (br_f (by decide) (br_f (by decide) (br_f (by decide) (br_f (by decide) (br_f (by decide) (COMP (by decide))))))))
  | 7, _ =>
    obtain ⟨hw, _, j, hj, hn⟩ := o3
    subst hn
    obtain ⟨la, ea, ra⟩ := PA rfl
    rw [ea]
    refine br_f (by decide) (br_f (by decide) (br_f (by decide) (br_f (by decide) (br_t rfl ?_))))
    refine gc_laneR hL la he hj ra ⟨hqin, nm_e ?_⟩
    refine hp _ gc_out_one (gc_one hw ?_)
    rw [veq]
    show _ = (gc_val (gc_Ee a5 a6 e) f a (nI j).toNatClampNeg).1
    rw [gc_clamp_lt (by omega)]
  | 8, _ => exact br_f (by decide) (br_f (by decide) (br_f (by decide) (br_f (by decide) (br_f (by decide) (br_f (by decide) (br_f (by decide) (COMP (by decide))))))))
  | 9, _ => exact absurd o3 (fun z => z)
  | 10, _ =>
    obtain ⟨la, ea, ra⟩ := PA rfl
    rw [ea]
    refine br_f (by decide) (br_f (by decide) (br_f (by decide) (br_f (by decide) (br_f (by decide) (br_t rfl ?_)))))
    unfold wX_execute_128
    refine gc_runT hL hs0 la he ra (fun k => k) (fun k hk => hk) (fun j k _ _ z => z) (fun c hc => ⟨c, hc, rfl⟩) (fun k _ => ⟨fun _ => rfl, fun z => absurd rfl z⟩) (gc_rs (gc_val (gc_Ee a5 a6 e) f a)) (fun c => (gc_run (gc_val (gc_Ee a5 a6 e) f a) c).1) rfl (fun k _ => gc_rs_step _ k) (fun k _ => rfl) ?_
    intro b17 h1 h2
    refine hp b17 h1 (fun c hc _ => ?_)
    rw [h2 c hc, veq]
    rfl
  | 11, _ =>
    obtain ⟨hw, j, hj, hn⟩ := o3
    subst hw hn
    refine br_f (by decide) (br_f (by decide) (br_t rfl ?_))
    unfold wX_execute_53
    refine gc_loadT hj he hs0 rfl ?_
    intro b17 h1 h2
    refine hp b17 h1 (fun c hc _ => ?_)
    rw [h2 c hc, veq]
    show (if nI 11 = 0 then _ else _) = a6 (12 * e + 4 * (nI j).toNatClampNeg + c)
    rw [if_neg (by decide), gc_clamp_lt (by omega)]
  | 12, _ => exact br_f (by decide) (br_f (by decide) (br_f (by decide) (br_f (by decide) (br_f (by decide) (br_f (by decide) (br_f (by decide) (COMP (by decide))))))))
  | 13, _ => exact br_f (by decide) (br_f (by decide) (br_f (by decide) (br_f (by decide) (br_f (by decide) (br_f (by decide) (br_f (by decide) (COMP (by decide))))))))
  | 14, _ =>
    obtain ⟨la, ea, ra⟩ := PA rfl
    rw [ea]
    refine br_f (by decide) (br_f (by decide) (br_f (by decide) (br_f (by decide) (br_f (by decide) (br_f (by decide) (br_t rfl ?_))))))
    unfold wX_execute_128
    refine gc_runT hL hs0 la he ra (fun k => 3 - k) (fun k hk => by omega) (fun j k _ _ z => by omega) (fun c hc => ⟨3 - c, by omega, by omega⟩) (fun k hk => ⟨fun z => absurd z (by decide), fun _ => pk_sub (a := 3) (by omega)⟩) (gc_bs (gc_val (gc_Ee a5 a6 e) f a)) (fun c => (gc_rub (gc_val (gc_Ee a5 a6 e) f a) c).1) rfl (fun k hk => gc_bs_step _ hk) (fun k _ => rfl) ?_
    intro b17 h1 h2
    refine hp b17 h1 (fun c hc _ => ?_)
    rw [h2 c hc, veq]
    rfl
/-! how many places are held -/
def gc_sg (p : Nat → Nat) : Nat → Nat
  | 0 => 0
  | n + 1 => gc_sg p n + p n
theorem gc_sg_le {p q : Nat → Nat} : ∀ n, (∀ j, j < n → p j ≤ q j) → gc_sg p n ≤ gc_sg q n := by
  intro n
  induction n with
  | zero => exact fun _ => Nat.le_refl _
  | succ n ih => exact fun h => Nat.add_le_add (ih (fun j hj => h j (by omega))) (h n (by omega))
theorem gc_sg_add (p q : Nat → Nat) (n : Nat) : gc_sg (fun j => p j + q j) n = gc_sg p n + gc_sg q n := by
  induction n with
  | zero => rfl
  | succ n ih =>
    show gc_sg (fun j => p j + q j) n + (p n + q n) = gc_sg p n + p n + (gc_sg q n + q n)
    omega
theorem gc_sg_zero {p : Nat → Nat} : ∀ n, (∀ j, j < n → p j = 0) → gc_sg p n = 0 := by
  intro n
  induction n with
  | zero => exact fun _ => rfl
  | succ n ih => intro h; show gc_sg p n + p n = 0; rw [ih (fun j hj => h j (by omega)), h n (by omega)]
theorem gc_sg_at (c : Nat) (a : Nat) : ∀ n, gc_sg (fun j => if j = a then c else 0) n = if a < n then c else 0 := by
  intro n
  induction n with
  | zero => rfl
  | succ n ih =>
    show gc_sg _ n + (if n = a then c else 0) = _
    rw [ih]
    by_cases e : n = a
    · rw [if_pos e, if_neg (show ¬ a < n by omega), if_pos (show a < n + 1 by omega), Nat.zero_add]
    · rw [if_neg e]
      by_cases e2 : a < n
      · rw [if_pos e2, if_pos (show a < n + 1 by omega), Nat.add_zero]
      · rw [if_neg e2, if_neg (show ¬ a < n + 1 by omega)]
def gc_hc (H : Nat → Bool) (n : Nat) : Nat := gc_sg (fun j => if H j then 1 else 0) n
theorem gc_hc_ext {H H' : Nat → Bool} {n : Nat} (h : ∀ j, j < n → H j = H' j) : gc_hc H n = gc_hc H' n :=
  Nat.le_antisymm (gc_sg_le n (fun j hj => by rw [h j hj]; exact Nat.le_refl _)) (gc_sg_le n (fun j hj => by rw [h j hj]; exact Nat.le_refl _))
theorem gc_hc_set {H H' : Nat → Bool} {n p : Nat} (hp : p < n) (h0 : H p = false) (h1 : H' p = true) (h : ∀ j, j ≠ p → H' j = H j) : gc_hc H' n = gc_hc H n + 1 := by
  have e := gc_sg_add (fun j => if H j then 1 else 0) (fun j => if j = p then 1 else 0) n
  rw [gc_sg_at 1 p n, if_pos hp] at e
  have pt : ∀ j, (if H' j then 1 else 0) = (if H j then 1 else 0) + (if j = p then 1 else 0) := by
    intro j
    by_cases ej : j = p
    · subst ej
      rw [h0, h1]
      simp
    · rw [h j ej, if_neg ej, Nat.add_zero]
  show gc_sg (fun j => if H' j then 1 else 0) n = _
  rw [show (fun j => if H' j then 1 else 0) = (fun j => (if H j then 1 else 0) + (if j = p then 1 else 0)) from funext pt, e]
  rfl
/-- held ahead of operation t: what stands below t and is used at t or later -/
def gc_Hd (lu : Nat → Option Nat) (t : Nat) (j : Nat) : Bool :=
  decide (j < t) && match lu j with
    | none => false
    | some u => decide (t ≤ u)
theorem gc_Hd_iff {lu : Nat → Option Nat} {t j : Nat} : gc_Hd lu t j = true ↔ j < t ∧ ∃ u, lu j = some u ∧ t ≤ u := by
  unfold gc_Hd
  cases h : lu j with
  | none => simp
  | some u => simp
def gc_bin (k : Nat) : Nat := if gc_u2 k then 1 else 0
theorem gc_Hd_skip {r t : Nat} {lu : Nat → Option Nat} (hU : gc_LU f r lu) (ht : t ≤ r) (hn : lu t = none) (j : Nat) (hj : j < r + 1) : gc_Hd lu (t + 1) j = gc_Hd lu t j := by
  rw [Bool.eq_iff_iff, gc_Hd_iff, gc_Hd_iff]
  constructor
  · rintro ⟨h1, u, h2, h3⟩
    have : j ≠ t := fun z => by rw [z, hn] at h2; exact Option.some_ne_none u h2.symm
    exact ⟨by omega, u, h2, by omega⟩
  · rintro ⟨h1, u, h2, h3⟩
    refine ⟨by omega, u, h2, ?_⟩
    have : u ≠ t := fun z => by
      subst z
      exact (hU.2.1 j u (by omega) h2).2.2.1 hn
    omega
theorem gc_live {r : Nat} {lu : Nat → Option Nat} (hok : ∀ i, i < r + 1 → gc_OK f i (f i)) (hU : gc_LU f r lu) (hr : r < 450) : ∀ d t, t + d = r + 1 → gc_hc (gc_Hd lu t) (r + 1) + gc_S gc_bin f t ≤ 1 + gc_S gc_bin f (r + 1) := by
  intro d
  induction d with
  | zero =>
    intro t ht
    have e : t = r + 1 := by omega
    subst e
    have : gc_hc (gc_Hd lu (r + 1)) (r + 1) ≤ gc_sg (fun j => if j = r then 1 else 0) (r + 1) := by
      refine gc_sg_le _ (fun j hj => ?_)
      by_cases h : gc_Hd lu (r + 1) j = true
      · rw [if_pos h]
        obtain ⟨_, u, h2, h3⟩ := gc_Hd_iff.mp h
        have : j = r := by
          by_cases z : j = r
          · exact z
          · have := hU.2.1 j u (by omega) h2
            omega
        rw [if_pos this]
        exact Nat.le_refl 1
      · rw [if_neg h]
        exact Nat.zero_le _
    rw [gc_sg_at, if_pos (by omega)] at this
    omega
  | succ d ih =>
    intro t ht
    have IH := ih (t + 1) (by omega)
    have eS : gc_S gc_bin f (t + 1) = gc_S gc_bin f t + gc_bin (gc_k (f t)) := rfl
    rw [eS] at IH
    cases hlt : lu t with
    | none =>
      rw [gc_hc_ext (gc_Hd_skip hU (by omega) hlt)] at IH
      omega
    | some v =>
      -- pointwise
      have hv : t < v := by
        by_cases z : t = r
        · rw [z] at hlt
          rw [hU.1] at hlt
          cases hlt
          omega
        · exact (hU.2.1 t v (by omega) hlt).1
      have ok := hok t (by omega)
      have pt : gc_sg (fun j => (if gc_Hd lu t j then 1 else 0) + (if j = t then 1 else 0)) (r + 1) ≤ gc_sg (fun j => (if gc_Hd lu (t + 1) j then 1 else 0) + ((if j = gc_a (f t) then 1 else 0) + (if j = gc_b (f t) then gc_bin (gc_k (f t)) else 0))) (r + 1) := by
        refine gc_sg_le _ (fun j hj => ?_)
        by_cases ej : j = t
        · subst ej
          have h1 : gc_Hd lu j j = false := by
            cases h : gc_Hd lu j j
            · rfl
            · exact absurd (gc_Hd_iff.mp h).1 (by omega)
          have h2 : gc_Hd lu (j + 1) j = true := gc_Hd_iff.mpr ⟨by omega, v, hlt, by omega⟩
          rw [h1, h2, if_pos rfl]
          exact Nat.le_add_right _ _
        · rw [if_neg ej]
          by_cases h : gc_Hd lu t j = true
          · rw [if_pos h]
            obtain ⟨h1, u, h2, h3⟩ := gc_Hd_iff.mp h
            by_cases eu : u = t
            · subst eu
              rcases (hU.2.1 j u (by omega) h2).2.2.2 with ⟨q1, q2⟩ | ⟨q1, q2⟩
              · rw [if_pos q2]
                omega
              · rw [if_pos q2]
                unfold gc_bin
                rw [if_pos q1]
                omega
            · have h4 : gc_Hd lu (t + 1) j = true := gc_Hd_iff.mpr ⟨by omega, u, h2, by omega⟩
              rw [if_pos h4]
              omega
          · rw [if_neg h]
            exact Nat.zero_le _
      rw [gc_sg_add, gc_sg_add, gc_sg_add, gc_sg_at, gc_sg_at, gc_sg_at, if_pos (show t < r + 1 by omega)] at pt
      have s1 : (if gc_a (f t) < r + 1 then 1 else 0) ≤ 1 := by split <;> omega
      have s2 : (if gc_b (f t) < r + 1 then gc_bin (gc_k (f t)) else 0) ≤ gc_bin (gc_k (f t)) := by split <;> omega
      have d1 : gc_hc (gc_Hd lu t) (r + 1) = gc_sg (fun j => if gc_Hd lu t j then 1 else 0) (r + 1) := rfl
      have d2 : gc_hc (gc_Hd lu (t + 1)) (r + 1) = gc_sg (fun j => if gc_Hd lu (t + 1) j then 1 else 0) (r + 1) := rfl
      omega
theorem gc_low (lu : Nat → Option Nat) (t : Nat) : ∀ n, gc_hc (gc_Hd lu t) n ≤ min t n := by
  intro n
  induction n with
  | zero => exact Nat.zero_le _
  | succ n ih =>
    show gc_hc (gc_Hd lu t) n + (if gc_Hd lu t n then 1 else 0) ≤ _
    by_cases h : gc_Hd lu t n = true
    · have := (gc_Hd_iff.mp h).1
      rw [if_pos h]
      omega
    · rw [if_neg h]
      omega
end
end
section
section
variable {nc lv le fc : Int32} {a1 a2 a3 a4 a5 a6 a7 a8 a9 a10 a11 a12 a13 a14 a15 a16 a17 : Nat → Int32}
variable {N : Nat} {f : Nat → gc_Op}
/-- places: F are free (fs), those of the held operations (sl) are not, and all differ -/
def gc_SLT (r : Nat) (H : Nat → Bool) (fc : Int32) (a15 a16 : Nat → Int32) (F : Nat) (fs sl : Nat → Nat) : Prop :=
  fc = nI F ∧ F + gc_hc H (r + 1) = 160 ∧ (∀ q, q < F → a15 q = nI (fs q) ∧ fs q < 160) ∧ (∀ q q', q < F → q' < F → fs q = fs q' → q = q') ∧
  (∀ j, j ≤ r → H j = true → a16 j = nI (sl j) ∧ sl j < 160 ∧ ∀ q, q < F → fs q ≠ sl j) ∧ ∀ j j', j ≤ r → j' ≤ r → H j = true → H j' = true → sl j = sl j' → j = j'
def gc_LN (f : Nat → gc_Op) (a5 a6 : Nat → Int32) (r : Nat) (V : Nat → Bool) (sl : Nat → Nat) (a17 : Nat → Int32) : Prop :=
  ∀ j, j ≤ r → V j = true → ∀ e, e < 3 → gc_B4 (gc_val (gc_Ee a5 a6 e) f j) (gc_w (f j)) a17 (12 * sl j + 4 * e)
def gc_HI (f : Nat → gc_Op) (a5 a6 : Nat → Int32) (r : Nat) (H : Nat → Bool) (fc : Int32) (a15 a16 a17 : Nat → Int32) : Prop :=
  ∃ F fs sl, gc_SLT r H fc a15 a16 F fs sl ∧ gc_LN f a5 a6 r H sl a17
def gc_clr (H : Nat → Bool) (lu : Nat → Option Nat) (p t : Nat) : Nat → Bool := fun j => if j = p ∧ lu p = some t then false else H j
theorem gc_HI_ext {r : Nat} {H H' : Nat → Bool} (h : gc_HI f a5 a6 r H fc a15 a16 a17) (he : ∀ j, j < r + 1 → H' j = H j) : gc_HI f a5 a6 r H' fc a15 a16 a17 := by
  obtain ⟨F, fs, sl, ⟨s1, s2, s3, s4, s5, s6⟩, ln⟩ := h
  refine ⟨F, fs, sl, ⟨s1, by rw [gc_hc_ext he]; exact s2, s3, s4, fun j hj h => s5 j hj (by rw [← he j (by omega)]; exact h), fun j j' hj hj' h h' => s6 j j' hj hj' (by rw [← he j (by omega)]; exact h) (by rw [← he j' (by omega)]; exact h')⟩, fun j hj h => ln j hj (by rw [← he j (by omega)]; exact h)⟩
theorem gc_release {post : St1 → Prop} {r p t : Nat} {H : Nat → Bool} {lu : Nat → Option Nat} (hI : gc_HI f a5 a6 r H fc a15 a16 a17) (hr : r < 450) (hp : p ≤ r) (ht : t ≤ r) (hx : a13 p = gc_en (lu p)) (hb : ∀ u, lu p = some u → u ≤ 450) (hH : lu p = some t → H p = true)
    (hpost : ∀ fc' b15, gc_HI f a5 a6 r (gc_clr H lu p t) fc' b15 a16 a17 → post (nc, lv, le, fc', a1, a2, a3, a4, a5, a6, a7, a8, a9, a10, a11, a12, a13, a14, b15, a16, a17)) : wpX_release post (nc, lv, le, fc, a1, a2, a3, a4, a5, a6, a7, a8, a9, a10, a11, a12, a13, a14, a15, a16, a17) (nI p) (nI t) := by
  have hc : (nI p).toNatClampNeg = p := nI_clamp (by omega)
  have hin : vp_in (nI p) 450 := vp_in_nI (by omega) (by omega)
  unfold wpX_release
  dsimp only
  rw [hc, hx]
  refine br_f (nI_pos (by omega)) ⟨hin, br_c (fun z => ⟨hin, ?_⟩) (fun z => ?_)⟩
  · have hl : lu p = some t := by
      match h : lu p with
      | none =>
        rw [h] at z
        have z' : (-1 : Int32) = nI t := z
        exact absurd (show nI t < 0 by rw [← z']; decide) (nI_pos (by omega))
      | some u =>
        rw [h] at z
        have z' : nI u = nI t := z
        rw [(nI_eq (by have := hb u h; omega) (by omega)).mp z']
    have hHp := hH hl
    obtain ⟨F, fs, sl, ⟨s1, s2, s3, s4, s5, s6⟩, ln⟩ := hI
    have e1 : gc_clr H lu p t p = false := if_pos ⟨rfl, hl⟩
    have e2 : ∀ j, j ≠ p → gc_clr H lu p t j = H j := fun j hj => if_neg (fun z => hj z.1)
    have e3 := gc_hc_set (H := gc_clr H lu p t) (H' := H) (n := r + 1) (p := p) (by omega) e1 hHp (fun j hj => (e2 j hj).symm)
    have hF : F < 160 := by omega
    obtain ⟨p1, p2, p3⟩ := s5 p hp hHp
    have hcF : fc.toNatClampNeg = F := by rw [s1]; exact nI_clamp (by omega)
    rw [hcF, p1, vp_nar_short, gc_sh (sl p) (by omega)]
    refine ⟨by rw [s1]; exact vp_in_nI hF (by omega), nm_e (nm_e ?_)⟩
    refine hpost _ _ ⟨F + 1, (fun q => if q = F then sl p else fs q), sl, ⟨by rw [s1]; exact nI_1 F, by omega, fun q hq => ?_, fun q q' hq hq' h => ?_, fun j hj h => ?_, fun j j' hj hj' h h' => ?_⟩, fun j hj h => ?_⟩
    · by_cases e : q = F
      · subst e
        rw [pk_us]
        dsimp only
        rw [if_pos rfl]
        exact ⟨rfl, p2⟩
      · rw [pk_un e]
        dsimp only
        rw [if_neg e]
        exact s3 q (by omega)
    · dsimp only at h
      by_cases e : q = F
      · by_cases e' : q' = F
        · rw [e, e']
        · rw [if_pos e, if_neg e'] at h
          exact absurd h.symm (p3 q' (by omega))
      · by_cases e' : q' = F
        · rw [if_neg e, if_pos e'] at h
          exact absurd h (p3 q (by omega))
        · rw [if_neg e, if_neg e'] at h
          exact s4 q q' (by omega) (by omega) h
    · have jp : j ≠ p := fun z => by rw [z, e1] at h; exact Bool.false_ne_true h
      rw [e2 j jp] at h
      obtain ⟨j1, j2, j3⟩ := s5 j hj h
      refine ⟨j1, j2, fun q hq => ?_⟩
      dsimp only
      by_cases e : q = F
      · rw [if_pos e]
        exact fun z => jp (s6 p j hp hj hHp h z).symm
      · rw [if_neg e]
        exact j3 q (by omega)
    · have jp : j ≠ p := fun z => by rw [z, e1] at h; exact Bool.false_ne_true h
      have jp' : j' ≠ p := fun z => by rw [z, e1] at h'; exact Bool.false_ne_true h'
      rw [e2 j jp] at h
      rw [e2 j' jp'] at h'
      exact s6 j j' hj hj' h h'
    · have jp : j ≠ p := fun z => by rw [z, e1] at h; exact Bool.false_ne_true h
      rw [e2 j jp] at h
      exact ln j hj h
  · refine hpost fc a15 (gc_HI_ext hI (fun j _ => ?_))
    refine if_neg (fun y => z ?_)
    rw [y.2]
    rfl
theorem gc_release0 {post : St1 → Prop} {t : Int32} (h : post (nc, lv, le, fc, a1, a2, a3, a4, a5, a6, a7, a8, a9, a10, a11, a12, a13, a14, a15, a16, a17)) : wpX_release post (nc, lv, le, fc, a1, a2, a3, a4, a5, a6, a7, a8, a9, a10, a11, a12, a13, a14, a15, a16, a17) (-1) t := by
  unfold wpX_release
  exact br_t (by decide) h
/-- after operation t: what it used last is free again -/
theorem gc_Hd_next {r t : Nat} {lu : Nat → Option Nat} (hok : gc_OK f t (f t)) (hU : gc_LU f r lu) (ht : t ≤ r) (hr : r < 450) (hn : lu t ≠ none) {H : Nat → Bool} (hH : ∀ j, j < r + 1 → (H j = true ↔ (gc_Hd lu t j = true ∨ j = t) ∧ ¬ (gc_par f t j ∧ lu j = some t))) :
    ∀ j, j < r + 1 → gc_Hd lu (t + 1) j = H j := by
  intro j hj
  rw [Bool.eq_iff_iff, hH j hj, gc_Hd_iff, gc_Hd_iff]
  constructor
  · rintro ⟨h1, u, h2, h3⟩
    refine ⟨?_, fun z => ?_⟩
    · by_cases e : j = t
      · exact Or.inr e
      · exact Or.inl ⟨by omega, u, h2, by omega⟩
    · rw [z.2] at h2
      cases h2
      omega
  · rintro ⟨h | h, h2⟩
    · obtain ⟨h1, u, h3, h4⟩ := h
      refine ⟨by omega, u, h3, ?_⟩
      have : u ≠ t := fun z => by
        subst z
        exact h2 ⟨(hU.2.1 j u (by omega) h3).2.2.2, h3⟩
      omega
    · subst h
      cases hl : lu j with
      | none => exact absurd hl hn
      | some v =>
        refine ⟨by omega, v, rfl, ?_⟩
        by_cases z : j = r
        · rw [z, hU.1] at hl
          cases hl
          omega
        · exact (hU.2.1 j v (by omega) hl).1
end
end
section
section
variable {nc lv le fc : Int32} {a1 a2 a3 a4 a5 a6 a7 a8 a9 a10 a11 a12 a13 a14 a15 a16 a17 : Nat → Int32}
variable {N : Nat} {f : Nat → gc_Op}
theorem gc_ix2 (s e : Nat) : (12 * nI s) + (4 * nI e) = nI (12 * s + 4 * e) := by
  have h1 : (12 : Int32) * nI s = nI (12 * s) := pk_mul 12 s
  have h2 : (4 : Int32) * nI e = nI (4 * e) := pk_mul 4 e
  rw [h1, h2, nI_add]
def gc_add1 (H : Nat → Bool) (t : Nat) : Nat → Bool := fun j => if j = t then true else H j
theorem gc_wo105 {post : Int32 → St1 → Prop} {J : Int32 → Int32 → Int32 → Int32 → Int32 → (Nat → Int32) → (Nat → Int32) → (Nat → Int32) → (Nat → Int32) → (Nat → Int32) → (Nat → Int32) → (Nat → Int32) → (Nat → Int32) → (Nat → Int32) → (Nat → Int32) → (Nat → Int32) → (Nat → Int32) → (Nat → Int32) → (Nat → Int32) → (Nat → Int32) → (Nat → Int32) → (Nat → Int32) → Prop} {x1 x2 x3 : Int32} (hL : gc_L N f le a7 a8 a9 a10 a11) {r t : Nat} (hr : r < N) (ht : t ≤ r) {lu : Nat → Option Nat} (henc : gc_enc r lu a13) (hU : gc_LU f r lu) (hn : lu t ≠ none)
    {F : Nat} {fs sl : Nat → Nat} (hS : gc_SLT r (gc_add1 (gc_Hd lu t) t) fc a15 a16 F fs sl) (hln : gc_LN f a5 a6 r (gc_Hd lu t) sl a17)
    (hJ : ∀ fc' b15 b17, gc_HI f a5 a6 r (gc_Hd lu (t + 1)) fc' b15 a16 b17 → J (nI (t + 1)) nc lv le fc' a1 a2 a3 a4 a5 a6 a7 a8 a9 a10 a11 a12 a13 a14 b15 a16 b17) :
    ∃ n, wX_workOut_105 post J x1 x2 x3 (nI t) n 0 nc lv le fc a1 a2 a3 a4 a5 a6 a7 a8 a9 a10 a11 a12 a13 a14 a15 a16 a17 := by
  have hN := hL.2.1
  have htc : (nI t).toNatClampNeg = t := nI_clamp (by omega)
  have htin : vp_in (nI t) 450 := vp_in_nI (by omega) (by omega)
  obtain ⟨⟨_, r1, r2, _, _⟩, ok⟩ := hL.2.2 t (by omega)
  have hHt : gc_add1 (gc_Hd lu t) t t = true := if_pos rfl
  obtain ⟨t1, t2, t3⟩ := hS.2.2.2.2.1 t ht hHt
  have hbd : ∀ j, j ≤ r → ∀ u, lu j = some u → u ≤ 450 := by
    intro j hj u hu
    by_cases e : j = r
    · rw [e, hU.1] at hu
      cases hu
      exact Nat.le_refl _
    · have := hU.2.1 j u (by omega) hu
      omega
  -- parts are held
  have hpart : ∀ p, gc_par f t p → p < t ∧ gc_Hd lu t p = true := by
    intro p hp
    have hpt := gc_par_lt ok hp
    obtain ⟨u, hu, htu⟩ := hU.2.2 t p ht hn hp
    exact ⟨hpt, gc_Hd_iff.mpr ⟨hpt, u, hu, htu⟩⟩
  refine pk_loop (σ := Nat → Int32) (fun n e s => wX_workOut_105 post J x1 x2 x3 (nI t) n (nI e) nc lv le fc a1 a2 a3 a4 a5 a6 a7 a8 a9 a10 a11 a12 a13 a14 a15 a16 s)
    (fun e s => (∀ j, (j < 12 * sl t ∨ 12 * sl t + 12 ≤ j) → s j = a17 j) ∧ ∀ e', e' < e → gc_B4 (gc_val (gc_Ee a5 a6 e') f t) (gc_w (f t)) s (12 * sl t + 4 * e')) 3 0 a17 (by omega) ⟨fun _ _ => rfl, fun e' he' => absurd he' (by omega)⟩ ?_ ?_
  · rintro n s ⟨q1, q2⟩
    refine pk_le 3 3 (fun _ => ⟨htin, ?_⟩) (fun z => absurd z (by omega))
    rw [htc, r1]
    have HI1 : gc_HI f a5 a6 r (gc_add1 (gc_Hd lu t) t) fc a15 a16 s := by
      refine ⟨F, fs, sl, hS, fun j hj h e he => ?_⟩
      by_cases ej : j = t
      · subst ej
        exact q2 e he
      · have hj' : gc_Hd lu t j = true := by
          have z : gc_add1 (gc_Hd lu t) t j = gc_Hd lu t j := if_neg ej
          rw [← z]
          exact h
        have hne : sl j ≠ sl t := fun z => ej (hS.2.2.2.2.2 j t hj ht h hHt z)
        intro c hc hw
        rw [q1 _ (by omega)]
        exact hln j hj hj' e he c hc hw
    -- the first part, then the second
    by_cases u1 : gc_u1 (gc_k (f t)) = true
    · have e1 : gc_e1 (f t) = nI (gc_a (f t)) := by unfold gc_e1; exact if_pos u1
      obtain ⟨pa1, pa2⟩ := hpart _ (Or.inl ⟨u1, rfl⟩)
      have na : gc_a (f t) ≠ t := by omega
      rw [e1]
      refine gc_release HI1 (by omega) (by omega) ht (henc _ (by omega)) (hbd _ (by omega)) (fun _ => (if_neg na).trans pa2) ?_
      intro fc' b15 HI2
      refine ⟨htin, htin, ?_⟩
      show (a9 t = a8 t → _) ∧ _
      by_cases u2 : gc_u2 (gc_k (f t)) = true
      · have e2 : gc_e2 (f t) = nI (gc_b (f t)) := by unfold gc_e2; exact if_pos u2
        obtain ⟨pb1, pb2⟩ := hpart _ (Or.inr ⟨u2, rfl⟩)
        have nb : gc_b (f t) ≠ t := by omega
        rw [r1, r2, e1, e2]
        refine pk_eq (gc_b (f t)) (gc_a (f t)) (fun eab => nm_r (nI_1 t) ?_) (fun eab => ⟨htin, ?_⟩)
        · refine hJ fc' b15 s (gc_HI_ext HI2 (fun j hj => ?_))
          refine gc_Hd_next ok hU ht (by omega) hn (fun j hj => ?_) j hj
          show (if j = gc_a (f t) ∧ lu (gc_a (f t)) = some t then false else (if j = t then true else gc_Hd lu t j)) = true ↔ _
          by_cases c1 : j = gc_a (f t) ∧ lu (gc_a (f t)) = some t
          · rw [if_pos c1]
            refine ⟨fun z => absurd z Bool.false_ne_true, fun z => absurd ⟨Or.inl ⟨u1, c1.1⟩, by rw [c1.1]; exact c1.2⟩ z.2⟩
          · rw [if_neg c1]
            by_cases c2 : j = t
            · rw [if_pos c2]
              refine ⟨fun _ => ⟨Or.inr c2, fun z => ?_⟩, fun _ => rfl⟩
              have := gc_par_lt ok z.1
              omega
            · rw [if_neg c2]
              refine ⟨fun z => ⟨Or.inl z, fun y => c1 ?_⟩, fun z => z.1.resolve_right c2⟩
              rcases y.1 with ⟨_, q⟩ | ⟨_, q⟩
              · rw [← q]; exact ⟨rfl, y.2⟩
              · rw [← eab, ← q]; exact ⟨rfl, y.2⟩
        · refine gc_release HI2 (by omega) (by omega) ht (henc _ (by omega)) (hbd _ (by omega)) (fun hb => ?_) ?_
          · show (if gc_b (f t) = gc_a (f t) ∧ _ then false else (if gc_b (f t) = t then true else _)) = true
            rw [if_neg (fun z => eab z.1), if_neg nb]
            exact pb2
          · intro fc2 c15 HI3
            refine nm_r (nI_1 t) ?_
            refine hJ fc2 c15 s (gc_HI_ext HI3 (fun j hj => ?_))
            refine gc_Hd_next ok hU ht (by omega) hn (fun j hj => ?_) j hj
            show (if j = gc_b (f t) ∧ lu (gc_b (f t)) = some t then false else (if j = gc_a (f t) ∧ lu (gc_a (f t)) = some t then false else (if j = t then true else gc_Hd lu t j))) = true ↔ _
            by_cases c0 : j = gc_b (f t) ∧ lu (gc_b (f t)) = some t
            · rw [if_pos c0]
              refine ⟨fun z => absurd z Bool.false_ne_true, fun z => absurd ⟨Or.inr ⟨u2, c0.1⟩, by rw [c0.1]; exact c0.2⟩ z.2⟩
            · rw [if_neg c0]
              by_cases c1 : j = gc_a (f t) ∧ lu (gc_a (f t)) = some t
              · rw [if_pos c1]
                refine ⟨fun z => absurd z Bool.false_ne_true, fun z => absurd ⟨Or.inl ⟨u1, c1.1⟩, by rw [c1.1]; exact c1.2⟩ z.2⟩
              · rw [if_neg c1]
                by_cases c2 : j = t
                · rw [if_pos c2]
                  refine ⟨fun _ => ⟨Or.inr c2, fun z => ?_⟩, fun _ => rfl⟩
                  have := gc_par_lt ok z.1
                  omega
                · rw [if_neg c2]
                  refine ⟨fun z => ⟨Or.inl z, fun y => ?_⟩, fun z => z.1.resolve_right c2⟩
                  rcases y.1 with ⟨_, q⟩ | ⟨_, q⟩
                  · exact c1 (by rw [← q]; exact ⟨rfl, y.2⟩)
                  · exact c0 (by rw [← q]; exact ⟨rfl, y.2⟩)
      · have e2 : gc_e2 (f t) = -1 := by unfold gc_e2; exact if_neg u2
        rw [r1, r2, e1, e2]
        refine br_f (fun z => absurd (show nI (gc_a (f t)) < 0 by rw [← z]; decide) (nI_pos (by omega))) ⟨htin, ?_⟩
        refine gc_release0 (nm_r (nI_1 t) ?_)
        refine hJ fc' b15 s (gc_HI_ext HI2 (fun j hj => ?_))
        refine gc_Hd_next ok hU ht (by omega) hn (fun j hj => ?_) j hj
        show (if j = gc_a (f t) ∧ lu (gc_a (f t)) = some t then false else (if j = t then true else gc_Hd lu t j)) = true ↔ _
        by_cases c1 : j = gc_a (f t) ∧ lu (gc_a (f t)) = some t
        · rw [if_pos c1]
          refine ⟨fun z => absurd z Bool.false_ne_true, fun z => absurd ⟨Or.inl ⟨u1, c1.1⟩, by rw [c1.1]; exact c1.2⟩ z.2⟩
        · rw [if_neg c1]
          by_cases c2 : j = t
          · rw [if_pos c2]
            refine ⟨fun _ => ⟨Or.inr c2, fun z => ?_⟩, fun _ => rfl⟩
            have := gc_par_lt ok z.1
            omega
          · rw [if_neg c2]
            refine ⟨fun z => ⟨Or.inl z, fun y => ?_⟩, fun z => z.1.resolve_right c2⟩
            rcases y.1 with ⟨_, q⟩ | ⟨q, _⟩
            · exact c1 (by rw [← q]; exact ⟨rfl, y.2⟩)
            · exact u2 q
    · have u2 : ¬ gc_u2 (gc_k (f t)) = true := by
        intro z
        apply u1
        revert z
        unfold gc_u1 gc_u2
        simp only [Bool.or_eq_true, beq_iff_eq, Bool.not_eq_true']
        intro z
        rcases z with ((z | z) | z) | z <;> rw [z] <;> rfl
      have e1 : gc_e1 (f t) = -1 := by unfold gc_e1; exact if_neg u1
      have e2 : gc_e2 (f t) = -1 := by unfold gc_e2; exact if_neg u2
      rw [e1]
      refine gc_release0 ⟨htin, htin, ?_⟩
      show (a9 t = a8 t → _) ∧ _
      rw [r1, r2, e1, e2]
      refine br_t rfl (nm_r (nI_1 t) ?_)
      refine hJ fc a15 s (gc_HI_ext HI1 (fun j hj => ?_))
      refine gc_Hd_next ok hU ht (by omega) hn (fun j hj => ?_) j hj
      show (if j = t then true else gc_Hd lu t j) = true ↔ _
      by_cases c2 : j = t
      · rw [if_pos c2]
        refine ⟨fun _ => ⟨Or.inr c2, fun z => ?_⟩, fun _ => rfl⟩
        have := gc_par_lt ok z.1
        omega
      · rw [if_neg c2]
        refine ⟨fun z => ⟨Or.inl z, fun y => ?_⟩, fun z => z.1.resolve_right c2⟩
        rcases y.1 with ⟨q, _⟩ | ⟨q, _⟩
        · exact u1 q
        · exact u2 q
  · rintro n e s he ⟨q1, q2⟩ hw
    refine pk_le 3 e (fun z => absurd z (by omega)) (fun _ => ⟨htin, ?_⟩)
    rw [htc, t1, gc_ix2]
    refine gc_execute hL (by omega) t2 he (fun p hp => ?_) ?_
    · obtain ⟨hpt, hHp⟩ := hpart p hp
      have hHp' : gc_add1 (gc_Hd lu t) t p = true := (if_neg (show p ≠ t by omega)).trans hHp
      obtain ⟨p1, p2, _⟩ := hS.2.2.2.2.1 p (by omega) hHp'
      have hne : sl p ≠ sl t := fun z => absurd (hS.2.2.2.2.2 p t (by omega) ht hHp' hHt z) (by omega)
      refine ⟨sl p, p1, p2, hne, fun c hc hw => ?_⟩
      rw [q1 _ (by omega)]
      exact hln p (by omega) hHp e he c hc hw
    · intro b17 h1 h2
      refine nm_r (nI_1 e) (hw b17 ⟨fun j hj => ?_, fun e' he' => ?_⟩)
      · rw [h1 j (by omega)]
        exact q1 j hj
      · by_cases ee : e' = e
        · rw [ee]
          exact h2
        · intro c hc hw0
          rw [h1 _ (by omega)]
          exact q2 e' (by omega) c hc hw0
end
end
section
section
variable {nc lv le fc : Int32} {a1 a2 a3 a4 a5 a6 a7 a8 a9 a10 a11 a12 a13 a14 a15 a16 a17 : Nat → Int32}
variable {N : Nat} {f : Nat → gc_Op}
theorem gc_wo57 {post : Int32 → St1 → Prop} (hL : gc_L N f le a7 a8 a9 a10 a11) {r i ex : Nat} (hr : r < N) (hi : i < 4) (hex : ex < 3) (hlive : ∃ R0, R0 ≤ 159 ∧ gc_S gc_bin f (r + 1) ≤ gc_S gc_bin f R0 + 158)
    {lu : Nat → Option Nat} (henc : gc_enc r lu a13) (hU : gc_LU f r lu)
    (hp : ∀ fc' b15 b16 b17, (∃ s, b16 r = nI s ∧ s < 160 ∧ ∀ e, e < 3 → gc_B4 (gc_val (gc_Ee a5 a6 e) f r) (gc_w (f r)) b17 (12 * s + 4 * e)) → post (gc_val (gc_Ee a5 a6 ex) f r i).1 (nc, lv, le, fc', a1, a2, a3, a4, a5, a6, a7, a8, a9, a10, a11, a12, a13, a14, b15, b16, b17))
    (h0 : gc_HI f a5 a6 r (gc_Hd lu 0) fc a15 a16 a17) : ∃ n, wX_workOut_57 post (nI r) (nI i) (nI ex) n 0 nc lv le fc a1 a2 a3 a4 a5 a6 a7 a8 a9 a10 a11 a12 a13 a14 a15 a16 a17 := by
  have hN := hL.2.1
  have hok : ∀ j, j < N → gc_OK f j (f j) := fun j hj => (hL.2.2 j hj).2
  have hbd : ∀ j, j ≤ r → ∀ u, lu j = some u → u ≤ 450 := by
    intro j hj u hu
    by_cases e : j = r
    · rw [e, hU.1] at hu
      cases hu
      exact Nat.le_refl _
    · have := hU.2.1 j u (by omega) hu
      omega
  refine pk_loop (σ := Int32 × (Nat → Int32) × (Nat → Int32) × (Nat → Int32)) (fun n t s => wX_workOut_57 post (nI r) (nI i) (nI ex) n (nI t) nc lv le s.1 a1 a2 a3 a4 a5 a6 a7 a8 a9 a10 a11 a12 a13 a14 s.2.1 s.2.2.1 s.2.2.2)
    (fun t s => gc_HI f a5 a6 r (gc_Hd lu t) s.1 s.2.1 s.2.2.1 s.2.2.2) (r + 1) 0 (fc, a15, a16, a17) (by omega) h0 ?_ ?_
  · rintro n ⟨fc', b15, b16, b17⟩ ⟨F, fs, sl, hS, hl⟩
    have hHr : gc_Hd lu (r + 1) r = true := gc_Hd_iff.mpr ⟨by omega, 450, hU.1, by omega⟩
    obtain ⟨p1, p2, p3⟩ := hS.2.2.2.2.1 r (Nat.le_refl r) hHr
    have B := hl r (Nat.le_refl r) hHr
    refine pk_lt r (r + 1) (fun _ => ?_) (fun z => absurd z (by omega))
    refine gc_laneOf hL hr p1 p2 hex hi (B ex hex) (fun w => gc_flat _ hok r hr w) ?_
    exact hp fc' b15 b16 b17 ⟨sl r, p1, p2, B⟩
  · rintro n t ⟨fc', b15, b16, b17⟩ ht hI hw
    dsimp only at hI hw ⊢
    have htc : (nI t).toNatClampNeg = t := nI_clamp (by omega)
    have htin : vp_in (nI t) 450 := vp_in_nI (by omega) (by omega)
    refine pk_lt r t (fun z => absurd z (by omega)) (fun _ => ⟨htin, ?_⟩)
    rw [htc]
    refine gc_en_cases (henc t (by omega)) (hbd t (by omega)) (fun v hv => ?_) (fun hn => nm_r (nI_1 t) (hw (fc', b15, b16, b17) (gc_HI_ext hI (gc_Hd_skip hU (by omega) hn))))
    obtain ⟨F, fs, sl, ⟨s1, s2, s3, s4, s5, s6⟩, hl⟩ := hI
    have hHt : gc_Hd lu t t = false := by
      cases h : gc_Hd lu t t
      · rfl
      · exact absurd (gc_Hd_iff.mp h).1 (by omega)
    have hcnt : gc_hc (gc_Hd lu t) (r + 1) ≤ 159 := by
      obtain ⟨R0, q1, q2⟩ := hlive
      by_cases hR : t ≤ R0
      · have := gc_low lu t (r + 1)
        omega
      · have l1 := gc_live (fun i hi => hok i (by omega)) hU (by omega) (r + 1 - t) t (by omega)
        have l2 := gc_S_mono gc_bin f (show R0 ≤ t by omega)
        omega
    have hF : F = (F - 1) + 1 := by omega
    have hf : fc' - 1 = nI (F - 1) := by
      rw [s1, hF]
      exact nI_pred _
    obtain ⟨g1, g2⟩ := s3 (F - 1) (by omega)
    refine nm_r hf ?_
    rw [nI_clamp (show F - 1 < 2 ^ 31 by omega), g1, vp_nar_short, gc_sh (fs (F - 1)) (by omega)]
    refine ⟨vp_in_nI (by omega) (by omega), htin, nm_e ?_⟩
    have cs := gc_hc_set (H := gc_Hd lu t) (H' := gc_add1 (gc_Hd lu t) t) (n := r + 1) (p := t) (by omega) hHt (if_pos rfl) (fun j hj => if_neg hj)
    have ne : lu t ≠ none := by rw [hv]; exact Option.some_ne_none v
    have nt : ∀ j, gc_Hd lu t j = true → j ≠ t := fun j h z => by rw [z, hHt] at h; exact Bool.false_ne_true h
    have at' : ∀ j, j ≠ t → gc_add1 (gc_Hd lu t) t j = gc_Hd lu t j := fun j hj => if_neg hj
    refine gc_wo105 hL hr (by omega) henc hU ne (F := F - 1) (fs := fs) (sl := fun j => if j = t then fs (F - 1) else sl j) ⟨rfl, by omega, fun q hq => s3 q (by omega), fun q q' hq hq' h => s4 q q' (by omega) (by omega) h, fun j hj h => ?_, fun j j' hj hj' h h' e => ?_⟩ (fun j hj h e he => ?_) ?_
    · dsimp only
      by_cases ej : j = t
      · subst ej
        rw [pk_us, if_pos rfl]
        exact ⟨rfl, g2, fun q hq z => absurd (s4 q (F - 1) (by omega) (by omega) z) (by omega)⟩
      · rw [at' j ej] at h
        obtain ⟨j1, j2, j3⟩ := s5 j hj h
        rw [pk_un ej, if_neg ej]
        exact ⟨j1, j2, fun q hq => j3 q (by omega)⟩
    · dsimp only at e
      by_cases ej : j = t
      · by_cases ej' : j' = t
        · rw [ej, ej']
        · rw [at' j' ej'] at h'
          rw [if_pos ej, if_neg ej'] at e
          exact absurd e ((s5 j' hj' h').2.2 (F - 1) (by omega))
      · by_cases ej' : j' = t
        · rw [at' j ej] at h
          rw [if_neg ej, if_pos ej'] at e
          exact absurd e.symm ((s5 j hj h).2.2 (F - 1) (by omega))
        · rw [at' j ej] at h
          rw [at' j' ej'] at h'
          rw [if_neg ej, if_neg ej'] at e
          exact s6 j j' hj hj' h h' e
    · dsimp only
      rw [if_neg (nt j h)]
      exact hl j hj h e he
    · intro fc2 c15 c17 HI2
      exact hw (fc2, c15, _, c17) HI2
theorem gc_workOut {post : Int32 → St1 → Prop} (hL : gc_L N f le a7 a8 a9 a10 a11) {r i ex : Nat} (hr : r < N) (hi : i < 4) (hex : ex < 3) (hlive : ∃ R0, R0 ≤ 159 ∧ gc_S gc_bin f (r + 1) ≤ gc_S gc_bin f R0 + 158)
    (hp : ∀ fc' b13 b15 b16 b17, (∃ s, b16 r = nI s ∧ s < 160 ∧ ∀ e, e < 3 → gc_B4 (gc_val (gc_Ee a5 a6 e) f r) (gc_w (f r)) b17 (12 * s + 4 * e)) → post (gc_val (gc_Ee a5 a6 ex) f r i).1 (nc, lv, le, fc', a1, a2, a3, a4, a5, a6, a7, a8, a9, a10, a11, a12, b13, a14, b15, b16, b17)) :
    wpX_workOut post (nc, lv, le, fc, a1, a2, a3, a4, a5, a6, a7, a8, a9, a10, a11, a12, a13, a14, a15, a16, a17) (nI r) (nI i) (nI ex) := by
  have hN := hL.2.1
  unfold wpX_workOut
  refine br_t (nI_pos' (by omega)) ?_
  refine gc_findLastUses hL hr ?_
  intro lu b13 henc hU
  have key := pk_loop (σ := Nat → Int32) (fun n j s => wX_workOut_21 post (nI r) (nI i) (nI ex) nc lv le n (nI (160 - j) + (-1)) (nI j) a1 a2 a3 a4 a5 a6 a7 a8 a9 a10 a11 a12 b13 a14 s a16 a17) (fun j s => ∀ q, q < j → s q = nI (159 - q)) 160 0 a15 (by omega) (fun q hq => absurd hq (by omega)) ?_ ?_
  · exact key
  · intro n s hs
    refine br_t (by decide) ?_
    refine gc_wo57 hL hr hi hex hlive henc hU (fun fc' b15 b16 b17 h => hp fc' b13 b15 b16 b17 h) ?_
    have hz : ∀ j, gc_Hd lu 0 j = false := by
      intro j
      cases h : gc_Hd lu 0 j
      · rfl
      · exact absurd (gc_Hd_iff.mp h).1 (by omega)
    refine ⟨160, (fun q => 159 - q), (fun _ => 0), ⟨rfl, ?_, fun q hq => ⟨hs q hq, (by dsimp only; omega)⟩, fun q q' hq hq' h => (by dsimp only at h; omega), fun j hj h => ?_, fun j j' hj hj' h => ?_⟩, fun j hj h => ?_⟩
    · have : gc_hc (gc_Hd lu 0) (r + 1) = 0 := gc_sg_zero _ (fun j _ => by rw [hz j]; rfl)
      omega
    · rw [hz j] at h
      exact absurd h Bool.false_ne_true
    · rw [hz j] at h
      exact absurd h Bool.false_ne_true
    · rw [hz j] at h
      exact absurd h Bool.false_ne_true
  · intro n j s hj hs hw
    have e1 : nI (160 - j) + (-1) = nI (159 - j) := by
      rw [sb_m1 (by omega)]
      rw [show 160 - j - 1 = 159 - j by omega]
    have e2 : nI (159 - j) = nI (160 - (j + 1)) := by rw [show 160 - (j + 1) = 159 - j by omega]
    show wX_workOut_21 post (nI r) (nI i) (nI ex) nc lv le (n + 1) (nI (160 - j) + (-1)) (nI j) a1 a2 a3 a4 a5 a6 a7 a8 a9 a10 a11 a12 b13 a14 s a16 a17
    rw [e1]
    refine br_f (nI_pos (by omega)) ⟨vp_in_nI (by omega) (by omega), nm_e (nm_r (nI_1 j) (nm_r (by rw [e2]) ?_))⟩
    rw [nI_clamp (show j < 2 ^ 31 by omega), gc_sh (159 - j) (by omega)]
    refine hw _ (fun q hq => ?_)
    by_cases e : q = j
    · rw [e]
      exact pk_us
    · rw [pk_un e]
      exact hs q (by omega)
theorem gc_workOutN {post : Int32 → St1 → Prop} {i ex : Int32} (hp : post 0 (nc, lv, le, fc, a1, a2, a3, a4, a5, a6, a7, a8, a9, a10, a11, a12, a13, a14, a15, a16, a17)) : wpX_workOut post (nc, lv, le, fc, a1, a2, a3, a4, a5, a6, a7, a8, a9, a10, a11, a12, a13, a14, a15, a16, a17) (-1) i ex := by
  unfold wpX_workOut
  exact br_f gc_le_neg hp
end
end
section
section
/-! part 0 doesn't see the directions of derivation; they may be swapped; unit directions -/
theorem gc_sm_base {E E' : gc_E} (h1 : E.1 = E'.1) (h2 : E.2.1 = E'.2.1) (k : Nat) (n : Int32) {x x' y y' : gc_V} (hx : ∀ c, (x c).1 = (x' c).1) (hy : ∀ c, (y c).1 = (y' c).1) (c : Nat) : (gc_sm E k n x y c).1 = (gc_sm E' k n x' y' c).1 := by
  unfold gc_sm
  split
  · dsimp only
    rw [h1]
  · rfl
  · simp only [gc_add, hx, hy]
  · simp only [gc_sub, hx, hy]
  · simp only [gc_mul, hx, hy]
  · simp only [gc_s4, gc_add, hx]
  · exact hx _
  · exact hx _
  · exact hx _
  · dsimp only
    induction c with
    | zero => exact hx 0
    | succ c ih => simp only [gc_run, gc_add, hx, ih]
  · dsimp only
    rw [h2]
  · dsimp only
    split
    · exact hx 0
    · rfl
  · dsimp only
    rw [hx c]
    split
    · exact hy c
    · rfl
  · dsimp only
    unfold gc_rub
    split <;> simp only [gc_add, hx]
  · rfl
theorem gc_vf_base {E E' : gc_E} (h1 : E.1 = E'.1) (h2 : E.2.1 = E'.2.1) (f : Nat → gc_Op) : ∀ n j c, (gc_vf E f n j c).1 = (gc_vf E' f n j c).1 := by
  intro n
  induction n with
  | zero => exact fun _ _ => rfl
  | succ n ih =>
    intro j c
    show ((if j = n then gc_sem E (f n) _ _ else gc_vf E f n j) c).1 = ((if j = n then gc_sem E' (f n) _ _ else gc_vf E' f n j) c).1
    by_cases e : j = n
    · rw [if_pos e, if_pos e]
      exact gc_sm_base h1 h2 _ _ (ih _) (ih _) c
    · rw [if_neg e, if_neg e]
      exact ih j c
theorem gc_base {E E' : gc_E} (h1 : E.1 = E'.1) (h2 : E.2.1 = E'.2.1) (f : Nat → gc_Op) (i c : Nat) : (gc_val E f i c).1 = (gc_val E' f i c).1 := gc_vf_base h1 h2 f (i + 1) i c
def gc_sw (x : gc_H) : gc_H := (x.1, x.2.2.1, x.2.1, x.2.2.2)
theorem gc_sw_add (x y : gc_H) : gc_sw (gc_add x y) = gc_add (gc_sw x) (gc_sw y) := rfl
theorem gc_sw_sub (x y : gc_H) : gc_sw (gc_sub x y) = gc_sub (gc_sw x) (gc_sw y) := rfl
theorem gc_sw_mul (x y : gc_H) : gc_sw (gc_mul x y) = gc_mul (gc_sw x) (gc_sw y) := by
  refine gc_Hx ?_ ?_ ?_ ?_ <;> simp only [gc_sw, gc_mul] <;> grind
theorem gc_sm_sw (X D U V : Nat → Nat → Int32) (k : Nat) (n : Int32) {x x' y y' : gc_V} (hx : ∀ c, x' c = gc_sw (x c)) (hy : ∀ c, y' c = gc_sw (y c)) (c : Nat) : gc_sm (X, D, V, U) k n x' y' c = gc_sw (gc_sm (X, D, U, V) k n x y c) := by
  unfold gc_sm
  split
  · rfl
  · rfl
  · simp only [hx, hy, gc_sw_add]
  · simp only [hx, hy, gc_sw_sub]
  · simp only [hx, hy, gc_sw_mul]
  · simp only [gc_s4, hx, gc_sw_add]
  · exact hx _
  · exact hx _
  · exact hx _
  · dsimp only
    induction c with
    | zero => exact hx 0
    | succ c ih => simp only [gc_run, hx, ih, gc_sw_add]
  · rfl
  · dsimp only
    split
    · exact hx 0
    · rfl
  · dsimp only
    rw [hx c]
    by_cases h : 0 < (x c).1
    · rw [if_pos h, if_pos (show 0 < (gc_sw (x c)).1 from h)]
      exact hy c
    · rw [if_neg h, if_neg (show ¬ 0 < (gc_sw (x c)).1 from h)]
      rfl
  · dsimp only
    unfold gc_rub
    split <;> simp only [hx, gc_sw_add]
  · rfl
theorem gc_vf_sw (X D U V : Nat → Nat → Int32) (f : Nat → gc_Op) : ∀ n j c, gc_vf (X, D, V, U) f n j c = gc_sw (gc_vf (X, D, U, V) f n j c) := by
  intro n
  induction n with
  | zero => exact fun _ _ => rfl
  | succ n ih =>
    intro j c
    show (if j = n then gc_sem (X, D, V, U) (f n) _ _ else gc_vf (X, D, V, U) f n j) c = gc_sw ((if j = n then gc_sem (X, D, U, V) (f n) _ _ else gc_vf (X, D, U, V) f n j) c)
    by_cases e : j = n
    · rw [if_pos e, if_pos e]
      exact gc_sm_sw X D U V _ _ (ih _) (ih _) c
    · rw [if_neg e, if_neg e]
      exact ih j c
theorem gc_swap (X D U V : Nat → Nat → Int32) (f : Nat → gc_Op) (i c : Nat) : gc_val (X, D, V, U) f i c = gc_sw (gc_val (X, D, U, V) f i c) := gc_vf_sw X D U V f (i + 1) i c
/-- the unit direction -/
def gc_ut (at' : Nat) : Nat → Nat → Int32 := fun k c => if 4 * k + c = at' then 1 else 0
theorem gc_P_in (q : Bool) (g : gc_V) (X D U V : Nat → Nat → Int32) (k : Nat) : gc_P q true g (gc_inp (X, D, U, V) k) = (if q then (g 0).2.2.1 else (g 0).1) * U k 0 + (if q then (g 1).2.2.1 else (g 1).1) * U k 1 + (if q then (g 2).2.2.1 else (g 2).1) * U k 2 + (if q then (g 3).2.2.1 else (g 3).1) * U k 3 := by
  cases q <;> simp only [gc_P, gc_p, gc_inp, if_true, if_false, Bool.false_eq_true] <;> grind
theorem gc_PS3 (q : Bool) (R : Nat → gc_V) (X D U V : Nat → Nat → Int32) : gc_PS q (fun _ => true) R (gc_inp (X, D, U, V)) 3 = gc_P q true (R 0) (gc_inp (X, D, U, V) 0) + gc_P q true (R 1) (gc_inp (X, D, U, V) 1) + gc_P q true (R 2) (gc_inp (X, D, U, V) 2) := by
  show 0 + _ + _ + _ = _
  rw [Int32.zero_add]
theorem gc_unit (q : Bool) (R : Nat → gc_V) (X D V : Nat → Nat → Int32) {i : Nat} (hi : i < 12) : gc_PS q (fun _ => true) R (gc_inp (X, D, gc_ut i, V)) 3 = if q then (R (i / 4) (i % 4)).2.2.1 else (R (i / 4) (i % 4)).1 := by
  rw [gc_PS3, gc_P_in, gc_P_in, gc_P_in]
  match i, hi with
  | 0, _ => simp [gc_ut]
  | 1, _ => simp [gc_ut]
  | 2, _ => simp [gc_ut]
  | 3, _ => simp [gc_ut]
  | 4, _ => simp [gc_ut]
  | 5, _ => simp [gc_ut]
  | 6, _ => simp [gc_ut]
  | 7, _ => simp [gc_ut]
  | 8, _ => simp [gc_ut]
  | 9, _ => simp [gc_ut]
  | 10, _ => simp [gc_ut]
  | 11, _ => simp [gc_ut]
theorem gc_P1 (q : Bool) (s : gc_V) : gc_P q false (fun _ => (1, 0, 0, 0)) s = if q then (s 0).2.2.2 else (s 0).2.1 := by
  cases q <;> simp only [gc_P, gc_p, if_true, if_false, Bool.false_eq_true] <;> grind
/-- added up over the twelve components -/
def gc_s12 (g : Nat → Int32) : Nat → Int32
  | 0 => 0
  | n + 1 => gc_s12 g n + g n
theorem gc_lin12 (R : Nat → gc_V) (X D U V : Nat → Nat → Int32) : gc_PS false (fun _ => true) R (gc_inp (X, D, U, V)) 3 = gc_s12 (fun i => (R (i / 4) (i % 4)).1 * U (i / 4) (i % 4)) 12 := by
  rw [gc_PS3, gc_P_in, gc_P_in, gc_P_in]
  simp only [gc_s12, Bool.false_eq_true, if_false]
  show _ = 0 + (R 0 0).1 * U 0 0 + (R 0 1).1 * U 0 1 + (R 0 2).1 * U 0 2 + (R 0 3).1 * U 0 3 + (R 1 0).1 * U 1 0 + (R 1 1).1 * U 1 1 + (R 1 2).1 * U 1 2 + (R 1 3).1 * U 1 3 + (R 2 0).1 * U 2 0 + (R 2 1).1 * U 2 1 + (R 2 2).1 * U 2 2 + (R 2 3).1 * U 2 3
  grind
theorem gc_S_add (t u : Nat → Nat) (f : Nat → gc_Op) (n : Nat) : gc_S t f n + gc_S u f n = gc_S (fun k => t k + u k) f n := by
  induction n with
  | zero => rfl
  | succ n ih =>
    show gc_S t f n + t (gc_k (f n)) + (gc_S u f n + u (gc_k (f n))) = gc_S (fun k => t k + u k) f n + (t (gc_k (f n)) + u (gc_k (f n)))
    omega
end
end
section
section
variable {nc lv le fc : Int32} {a1 a2 a3 a4 a5 a6 a7 a8 a9 a10 a11 a12 a13 a14 a15 a16 a17 : Nat → Int32}
variable {n : Nat} {G : Nat → gc_Op}
theorem gc_isNode {post : Int32 → Prop} (hG : gc_G n G nc a1 a2 a3 a4) {k : Nat} (hk : k < n) (hp : post 1) : wpX_isNode post (nc, lv, le, fc, a1, a2, a3, a4, a5, a6, a7, a8, a9, a10, a11, a12, a13, a14, a15, a16, a17) (nI k) := by
  have hn := hG.2.1
  unfold wpX_isNode
  exact br_f (nI_pos (by omega)) (pk_le n k (fun z => absurd z (by omega)) (fun _ => hp) hG.1)
theorem gc_isNumber {post : Int32 → Prop} (hG : gc_G n G nc a1 a2 a3 a4) {k : Nat} (hk : k < n) (h1 : gc_w (G k) = false → post 1) (h0 : gc_w (G k) = true → post 0) : wpX_isNumber post (nc, lv, le, fc, a1, a2, a3, a4, a5, a6, a7, a8, a9, a10, a11, a12, a13, a14, a15, a16, a17) (nI k) := by
  have hn := hG.2.1
  have hc : (nI k).toNatClampNeg = k := nI_clamp (by omega)
  have r4 : a4 k = gc_B (gc_w (G k)) := (hG.2.2 k hk).1.1
  unfold wpX_isNumber
  refine gc_isNode hG hk (br_f (by decide) ⟨vp_in_nI (by omega) (by omega), ?_⟩)
  rw [hc, r4]
  refine br_c (fun z => h1 (gc_B0.mp z)) (fun z => h0 ?_)
  cases hx : gc_w (G k)
  · exact absurd (gc_B0.mpr hx) z
  · rfl
theorem gc_isComponent {post : Int32 → Prop} {i e : Nat} (hi : i < 12) (he : e < 3) (hp : post 1) : wpX_isComponent post (nc, lv, le, fc, a1, a2, a3, a4, a5, a6, a7, a8, a9, a10, a11, a12, a13, a14, a15, a16, a17) (nI i) (nI e) := by
  unfold wpX_isComponent
  exact br_f (nI_pos (by omega)) (pk_lt 11 i (fun z => absurd z (by omega)) (fun _ => br_f (nI_pos (by omega)) (pk_lt 2 e (fun z => absurd z (by omega)) (fun _ => hp))))
theorem gc_isPart {post : Int32 → Prop} (hG : gc_G n G nc a1 a2 a3 a4) {k i e : Nat} (hk : k < n) (hi : i < 4) (he : e < 3) (h1 : (gc_w (G k) = false → i = 0) → post 1) (h0 : gc_w (G k) = false → i ≠ 0 → post 0) : wpX_isPart post (nc, lv, le, fc, a1, a2, a3, a4, a5, a6, a7, a8, a9, a10, a11, a12, a13, a14, a15, a16, a17) (nI k) (nI i) (nI e) := by
  have hn := hG.2.1
  have hc : (nI k).toNatClampNeg = k := nI_clamp (by omega)
  have r4 : a4 k = gc_B (gc_w (G k)) := (hG.2.2 k hk).1.1
  unfold wpX_isPart
  refine gc_isNode hG hk (br_f (by decide) (br_f (nI_pos (by omega)) (pk_le e 2 (fun _ => br_f (nI_pos (by omega)) ⟨vp_in_nI (by omega) (by omega), ?_⟩) (fun z => absurd z (by omega)))))
  rw [hc, r4]
  refine br_c (fun z => ?_) (fun z => ?_)
  · exact pk_lt 0 i (fun y => h0 (gc_B0.mp z) (by omega)) (fun y => h1 (fun _ => by omega))
  · exact pk_lt 3 i (fun y => absurd y (by omega)) (fun y => h1 (fun w => absurd (gc_B0.mpr w) z))
/-- the weights of a trace -/
theorem gc_bnd (hG : gc_G n G nc a1 a2 a3 a4) {i N : Nat} {f : Nat → gc_Op} {b12 : Nat → Int32} (hi : i < n) (hT : gc_TR G (i + 1) N f b12) (t : Nat → Nat) (B : Nat) (hB : ∀ k, k < 15 → gc_mc k t ≤ B) : gc_S t f N ≤ 12 * B := by
  have hn := hG.2.1
  have h1 := hT.2 t
  have h2 := gc_S_bound (fun k => gc_mc k t) G B (i + 1) (fun j hj => hB _ (gc_k15 (hG.2.2 j (by omega)).2.2.2))
  have h3 : (i + 1) * B ≤ 12 * B := Nat.mul_le_mul_right B (by omega)
  omega
def gc_t1 : Nat → Nat := fun _ => 1
def gc_W0 : Nat → Nat := fun k => 1 + gc_pc (fun _ => 1) 0 k
def gc_W1 : Nat → Nat := fun k => gc_W0 k + gc_pc gc_W0 0 k
def gc_Bw : Nat → Nat := fun k => gc_pc gc_bin 1 k - 1
def gc_Bx : Nat → Nat := fun k => gc_Bw k + gc_pc gc_Bw 0 k
theorem gc_b1 : ∀ k, k < 15 → gc_mc k (gc_pc (fun _ => 1) 0) ≤ 7 := by decide
theorem gc_b2 : ∀ k, k < 15 → gc_mc k gc_W1 ≤ 35 := by decide
theorem gc_b3 : ∀ k, k < 15 → gc_mc k gc_Bx ≤ 11 := by decide
theorem gc_b4 : ∀ k, k < 15 → gc_mc k (gc_fc (fun _ => 1)) ≤ 7 := by decide
def gc_EU (a5 a6 : Nat → Int32) (e : Nat) (U V : Nat → Nat → Int32) : gc_E := (fun k c => a5 (12 * e + 4 * k + c), fun k c => a6 (12 * e + 4 * k + c), U, V)
def gc_oV (a5 a6 : Nat → Int32) (G : Nat → gc_Op) (k i e : Nat) : Int32 := if gc_w (G k) = false ∧ i ≠ 0 then 0 else (gc_val (gc_Ee a5 a6 e) G k i).1
def gc_oS (a5 a6 : Nat → Int32) (G : Nat → gc_Op) (k i e : Nat) : Int32 := if gc_w (G k) = true then 0 else (gc_val (gc_EU a5 a6 e (gc_ut i) (fun _ _ => 0)) G k 0).2.1
def gc_oB (a5 a6 : Nat → Int32) (G : Nat → gc_Op) (k i j e : Nat) : Int32 := if gc_w (G k) = true then 0 else (gc_val (gc_EU a5 a6 e (gc_ut i) (gc_ut j)) G k 0).2.2.2
def gc_oA (a5 a6 : Nat → Int32) (G : Nat → gc_Op) (k i e : Nat) : Int32 := if gc_w (G k) = false ∧ i ≠ 0 then 0 else (gc_val (gc_EU a5 a6 e (fun k c => a6 (12 * e + 4 * k + c)) (fun _ _ => 0)) G k i).2.1
/-- how node k moves is linear in the direction -/
def gc_linear (a5 a6 : Nat → Int32) (G : Nat → gc_Op) (k : Nat) : Prop :=
  ∀ (e : Nat) (U : Nat → Nat → Int32), (gc_val (gc_EU a5 a6 e U (fun _ _ => 0)) G k 0).2.1 = gc_s12 (fun i => (gc_val (gc_EU a5 a6 e (gc_ut i) (fun _ _ => 0)) G k 0).2.1 * U (i / 4) (i % 4)) 12
theorem gc_rv_base {E E' : gc_E} (h1 : E.1 = E'.1) (h2 : E.2.1 = E'.2.1) (f : Nat → gc_Op) (o : Option Nat) (c : Nat) : (gc_rv E f o c).1 = (gc_rv E' f o c).1 := by
  cases o with
  | none => rfl
  | some r => exact gc_base h1 h2 f r c
theorem gc_s12_ext {g g' : Nat → Int32} : ∀ m, (∀ i, i < m → g i = g' i) → gc_s12 g m = gc_s12 g' m := by
  intro m
  induction m with
  | zero => exact fun _ => rfl
  | succ m ih => intro h; show gc_s12 g m + g m = gc_s12 g' m + g' m; rw [ih (fun i hi => h i (by omega)), h m (by omega)]
theorem gc_slopeVal {N' r : Nat} {f f' : Nat → gc_Op} {h' : Nat → Option Nat} {k : Nat} (hv : ∀ E, gc_val E f r = gc_val E G k)
    (hPS : ∀ E q, gc_PS q (fun _ => true) (fun k => gc_rv E f' (h' k)) (gc_inp E) 3 = gc_P q false (fun _ => (1, 0, 0, 0)) (gc_val E f r)) (e : Nat) {i : Nat} (hi : i < 12) (V : Nat → Nat → Int32) :
    (gc_rv (gc_Ee a5 a6 e) f' (h' (i / 4)) (i % 4)).1 = (gc_val (gc_EU a5 a6 e (gc_ut i) V) G k 0).2.1 ∧ (gc_rv (gc_EU a5 a6 e (gc_ut i) V) f' (h' (i / 4)) (i % 4)).2.2.1 = (gc_val (gc_EU a5 a6 e (gc_ut i) V) G k 0).2.2.2 := by
  have h1 := hPS (gc_EU a5 a6 e (gc_ut i) V) false
  have h2 := hPS (gc_EU a5 a6 e (gc_ut i) V) true
  rw [gc_P1, hv] at h1 h2
  have u1 := gc_unit false (fun k => gc_rv (gc_EU a5 a6 e (gc_ut i) V) f' (h' k)) (fun k c => a5 (12 * e + 4 * k + c)) (fun k c => a6 (12 * e + 4 * k + c)) V hi
  have u2 := gc_unit true (fun k => gc_rv (gc_EU a5 a6 e (gc_ut i) V) f' (h' k)) (fun k c => a5 (12 * e + 4 * k + c)) (fun k c => a6 (12 * e + 4 * k + c)) V hi
  simp only [if_true, if_false, Bool.false_eq_true] at h1 h2 u1 u2
  refine ⟨?_, u2.symm.trans h2⟩
  exact (gc_rv_base (E := gc_Ee a5 a6 e) (E' := gc_EU a5 a6 e (gc_ut i) V) rfl rfl f' _ _).trans (u1.symm.trans h1)
theorem gc_lineal {r : Nat} {f f' : Nat → gc_Op} {h' : Nat → Option Nat} {k : Nat} (hv : ∀ E, gc_val E f r = gc_val E G k)
    (hPS : ∀ E q, gc_PS q (fun _ => true) (fun k => gc_rv E f' (h' k)) (gc_inp E) 3 = gc_P q false (fun _ => (1, 0, 0, 0)) (gc_val E f r)) : gc_linear a5 a6 G k := by
  intro e U
  have h1 := hPS (gc_EU a5 a6 e U (fun _ _ => 0)) false
  rw [gc_P1, hv] at h1
  simp only [if_false, Bool.false_eq_true] at h1
  rw [← h1]
  have l := gc_lin12 (fun k => gc_rv (gc_EU a5 a6 e U (fun _ _ => 0)) f' (h' k)) (fun k c => a5 (12 * e + 4 * k + c)) (fun k c => a6 (12 * e + 4 * k + c)) U (fun _ _ => 0)
  refine l.trans (gc_s12_ext 12 (fun i hi => ?_))
  rw [← (gc_slopeVal (a5 := a5) (a6 := a6) (N' := 0) hv hPS e hi (fun _ _ => 0)).1, gc_rv_base (E := gc_EU a5 a6 e U (fun _ _ => 0)) (E' := gc_Ee a5 a6 e) rfl rfl f' _ _]
theorem gc_value {post : Int32 → St1 → Prop} (hG : gc_G n G nc a1 a2 a3 a4) {k i e : Nat} (hk : k < n) (hi : i < 4) (he : e < 3)
    (hp : ∀ (le' fc' : Int32) (b7 b8 b9 b10 b11 b12 b13 b14 b15 b16 b17 : Nat → Int32), post (gc_oV a5 a6 G k i e) (nc, lv, le', fc', a1, a2, a3, a4, a5, a6, b7, b8, b9, b10, b11, b12, b13, b14, b15, b16, b17)) : wpX_value post (nc, lv, le, fc, a1, a2, a3, a4, a5, a6, a7, a8, a9, a10, a11, a12, a13, a14, a15, a16, a17) (nI k) (nI i) (nI e) := by
  have hn := hG.2.1
  have hkc : (nI k).toNatClampNeg = k := nI_clamp (by omega)
  unfold wpX_value
  refine gc_isPart hG hk hi he (fun hw => br_f (by decide) ?_) (fun hw h0 => br_t rfl ?_)
  · refine gc_trace hG hk ?_
    intro N f le1 c7 c8 c9 c10 c11 c12 hL hT
    obtain ⟨r, q1, q2, q3, q4⟩ := hT.1 k (by omega)
    have room := gc_TR_room hT
    refine ⟨vp_in_nI (by omega) (by omega), ?_⟩
    rw [hkc, q1]
    refine gc_workOut hL q2 hi he ⟨r + 1, by omega, Nat.le_add_right _ _⟩ ?_
    intro fc' b13 b15 b16 b17 _
    have t := hp le1 fc' c7 c8 c9 c10 c11 c12 b13 a14 b15 b16 b17
    have e1 : gc_oV a5 a6 G k i e = (gc_val (gc_Ee a5 a6 e) f r i).1 := by
      unfold gc_oV
      rw [if_neg (fun z => z.2 (hw z.1)), q4]
    rw [e1] at t
    exact t
  · have t := hp le fc a7 a8 a9 a10 a11 a12 a13 a14 a15 a16 a17
    have e1 : gc_oV a5 a6 G k i e = 0 := if_pos ⟨hw, h0⟩
    rw [e1] at t
    exact t
theorem gc_d4 {i : Nat} (hi : i < 12) : nI i / 4 = nI (i / 4) := pk_div (d := 4) (by omega) (by decide) (by decide)
theorem gc_m4 {i : Nat} (hi : i < 12) : nI i - nI (i / 4) * 4 = nI (i % 4) := by
  rw [← gc_d4 hi]
  exact pk_rem (d := 4) (by omega) (by decide) (by decide)
theorem gc_hK1 (hG : gc_G n G nc a1 a2 a3 a4) {k N r : Nat} {f : Nat → gc_Op} {b12 : Nat → Int32} (hk : k < n) (hT : gc_TR G (k + 1) N f b12) (hr : r < N) : N ≤ 24 ∧ gc_S (gc_pc (fun _ => 1) 0) f (r + 1) ≤ 84 := by
  have hn := hG.2.1
  have room := gc_TR_room hT
  have b := gc_bnd hG hk hT _ 7 gc_b1
  have m := gc_S_mono (gc_pc (fun _ => 1) 0) f (show r + 1 ≤ N by omega)
  omega
theorem gc_slope {post : Int32 → St1 → Prop} (hG : gc_G n G nc a1 a2 a3 a4) {k i e : Nat} (hk : k < n) (hi : i < 12) (he : e < 3)
    (hp : ∀ (le' fc' : Int32) (b7 b8 b9 b10 b11 b12 b13 b14 b15 b16 b17 : Nat → Int32), (gc_w (G k) = false → gc_linear a5 a6 G k) → post (gc_oS a5 a6 G k i e) (nc, lv, le', fc', a1, a2, a3, a4, a5, a6, b7, b8, b9, b10, b11, b12, b13, b14, b15, b16, b17)) : wpX_slope post (nc, lv, le, fc, a1, a2, a3, a4, a5, a6, a7, a8, a9, a10, a11, a12, a13, a14, a15, a16, a17) (nI k) (nI i) (nI e) := by
  have hn := hG.2.1
  have hkc : (nI k).toNatClampNeg = k := nI_clamp (by omega)
  have d4 := gc_d4 hi
  have m4 := gc_m4 hi
  have hic : (nI (i / 4)).toNatClampNeg = i / 4 := nI_clamp (by omega)
  unfold wpX_slope
  dsimp only
  rw [d4, m4, hkc, hic]
  refine gc_isNumber hG hk (fun hw => br_f (by decide) ?_) (fun hw => br_t rfl ?_)
  · refine gc_isComponent hi he (br_f (by decide) ?_)
    refine gc_trace hG hk ?_
    intro N f le1 c7 c8 c9 c10 c11 c12 hL hT
    obtain ⟨r, q1, q2, q3, q4⟩ := hT.1 k (by omega)
    have hK := gc_hK1 hG hk hT q2
    refine ⟨vp_in_nI (by omega) (by omega), ?_⟩
    show wpX_backwards _ _ (c12 k)
    rw [q1]
    refine gc_backwards hL q2 (q3.trans hw) (by omega) ?_
    intro N' f' le2 d7 d8 d9 d10 d11 h' d13 d14 hL' hX hS hPS hC
    refine ⟨by decide, vp_in_nI (by omega) (by omega), by decide, ?_⟩
    have SV := (gc_slopeVal (a5 := a5) (a6 := a6) (N' := 0) q4 hPS e hi (fun _ _ => 0)).1
    have LIN := gc_lineal (a5 := a5) (a6 := a6) q4 hPS
    have e1 : gc_oS a5 a6 G k i e = (gc_rv (gc_Ee a5 a6 e) f' (h' (i / 4)) (i % 4)).1 := by
      unfold gc_oS
      rw [if_neg (by rw [hw]; exact Bool.false_ne_true), SV]
    have ho := hS (i / 4) (by omega)
    have room : N' ≤ 109 := by
      have := hC (fun _ => 1) 0
      rw [gc_S_one, gc_S_one] at this
      have z : gc_S (fun k => gc_pc (fun _ => 1) 0 k - 0) f (r + 1) = gc_S (gc_pc (fun _ => 1) 0) f (r + 1) := rfl
      omega
    show wpX_workOut _ _ (d14 (i / 4)) _ _
    cases hx : h' (i / 4) with
    | none =>
      rw [hx] at ho e1
      have e2 : d14 (i / 4) = -1 := ho
      rw [e2]
      refine gc_workOutN ?_
      have t := hp le2 fc d7 d8 d9 d10 d11 c12 d13 d14 a15 a16 a17 (fun _ => LIN)
      rw [e1] at t
      exact t
    | some p =>
      rw [hx] at ho e1
      obtain ⟨e2, p1, p2⟩ := ho
      rw [e2]
      refine gc_workOut hL' p1 (Nat.mod_lt _ (by omega)) he ⟨p + 1, by omega, Nat.le_add_right _ _⟩ ?_
      intro fc' b13 b15 b16 b17 _
      have t := hp le2 fc' d7 d8 d9 d10 d11 c12 b13 d14 b15 b16 b17 (fun _ => LIN)
      rw [e1] at t
      exact t
  · have t := hp le fc a7 a8 a9 a10 a11 a12 a13 a14 a15 a16 a17 (fun z => absurd (z.symm.trans hw) Bool.false_ne_true)
    have e1 : gc_oS a5 a6 G k i e = 0 := if_pos hw
    rw [e1] at t
    exact t
end
end
section
section
variable {nc lv le fc : Int32} {a1 a2 a3 a4 a5 a6 a7 a8 a9 a10 a11 a12 a13 a14 a15 a16 a17 : Nat → Int32}
variable {n : Nat} {G : Nat → gc_Op}
theorem gc_S_pt (t : Nat → Nat) (f : Nat → gc_Op) {i m : Nat} (h : i < m) : t (gc_k (f i)) ≤ gc_S t f m := by
  have := gc_S_mono t f (show i + 1 ≤ m by omega)
  have e : gc_S t f (i + 1) = gc_S t f i + t (gc_k (f i)) := rfl
  omega
def gc_t11 : Nat → Nat := fun k => if k = 11 then 1 else 0
theorem gc_b5 : ∀ k, k < 15 → k ≠ 11 → gc_mc k gc_t11 ≤ 0 := by decide
theorem gc_no11 (hG : gc_G n G nc a1 a2 a3 a4) {k N : Nat} {f : Nat → gc_Op} {b12 : Nat → Int32} (hk : k < n) (hT : gc_TR G (k + 1) N f b12) : ∀ i, i < N → gc_k (f i) ≠ 11 := by
  intro i hi z
  have h1 := hT.2 gc_t11
  have h2 := gc_S_bound (fun k => gc_mc k gc_t11) G 0 (k + 1) (fun j hj => gc_b5 _ (gc_k15 (hG.2.2 j (by omega)).2.2.2) (fun y => by
    have d := (hG.2.2 j (by omega)).1.2
    rw [y] at d
    exact d))
  have h3 := gc_S_pt gc_t11 f hi
  rw [z] at h3
  have e : gc_t11 11 = 1 := rfl
  omega
theorem gc_along {post : Int32 → St1 → Prop} (hG : gc_G n G nc a1 a2 a3 a4) {k i e : Nat} (hk : k < n) (hi : i < 4) (he : e < 3)
    (hp : ∀ (le' fc' : Int32) (b7 b8 b9 b10 b11 b12 b13 b14 b15 b16 b17 : Nat → Int32), post (gc_oA a5 a6 G k i e) (nc, lv, le', fc', a1, a2, a3, a4, a5, a6, b7, b8, b9, b10, b11, b12, b13, b14, b15, b16, b17)) : wpX_along post (nc, lv, le, fc, a1, a2, a3, a4, a5, a6, a7, a8, a9, a10, a11, a12, a13, a14, a15, a16, a17) (nI k) (nI i) (nI e) := by
  have hn := hG.2.1
  have hkc : (nI k).toNatClampNeg = k := nI_clamp (by omega)
  unfold wpX_along
  dsimp only
  rw [hkc]
  refine gc_isPart hG hk hi he (fun hw => br_f (by decide) ?_) (fun hw h0 => br_t rfl ?_)
  · refine gc_trace hG hk ?_
    intro N f le1 c7 c8 c9 c10 c11 c12 hL hT
    obtain ⟨r, q1, q2, q3, q4⟩ := hT.1 k (by omega)
    have room := gc_TR_room hT
    have b := gc_bnd hG hk hT _ 7 gc_b4
    have m := gc_S_mono (gc_fc (fun _ => 1)) f (show r + 1 ≤ N by omega)
    refine ⟨vp_in_nI (by omega) (by omega), ?_⟩
    show wpX_forwards _ _ (c12 k)
    rw [q1]
    refine gc_forwards hL q2 (fun i hi => gc_no11 hG hk hT i (by omega)) (by omega) ?_
    intro x o N' f' le2 d7 d8 d9 d10 d11 d13 hL' hX ho hF hC
    have e1 : gc_oA a5 a6 G k i e = (gc_rv (gc_Ee a5 a6 e) f' o i).1 := by
      unfold gc_oA
      rw [if_neg (fun z => z.2 (hw z.1))]
      have z := hF (gc_EU a5 a6 e (fun k c => a6 (12 * e + 4 * k + c)) (fun _ _ => 0)) rfl i
      rw [q4] at z
      rw [← z]
      exact gc_rv_base (E := gc_EU a5 a6 e (fun k c => a6 (12 * e + 4 * k + c)) (fun _ _ => 0)) (E' := gc_Ee a5 a6 e) rfl rfl f' o i
    have room2 : N' ≤ 108 := by
      have := hC (fun _ => 1)
      rw [gc_S_one, gc_S_one] at this
      omega
    cases o with
    | none =>
      have e2 : x = -1 := ho
      subst e2
      refine gc_workOutN ?_
      have t := hp le2 fc d7 d8 d9 d10 d11 c12 d13 a14 a15 a16 a17
      rw [e1] at t
      exact t
    | some p =>
      obtain ⟨e2, p1, p2⟩ := ho
      subst e2
      refine gc_workOut hL' p1 hi he ⟨p + 1, by omega, Nat.le_add_right _ _⟩ ?_
      intro fc' b13 b15 b16 b17 _
      have t := hp le2 fc' d7 d8 d9 d10 d11 c12 b13 a14 b15 b16 b17
      rw [e1] at t
      exact t
  · have t := hp le fc a7 a8 a9 a10 a11 a12 a13 a14 a15 a16 a17
    have e1 : gc_oA a5 a6 G k i e = 0 := if_pos ⟨hw, h0⟩
    rw [e1] at t
    exact t
theorem gc_slopeOfAll {post : Int32 → St1 → Prop} (hG : gc_G n G nc a1 a2 a3 a4) {k i : Nat} (hk : k < n) (hi : i < 12)
    (hp : ∀ (le' fc' : Int32) (b7 b8 b9 b10 b11 b12 b13 b14 b15 b16 b17 : Nat → Int32), post (gc_oS a5 a6 G k i 0 + gc_oS a5 a6 G k i 1 + gc_oS a5 a6 G k i 2) (nc, lv, le', fc', a1, a2, a3, a4, a5, a6, b7, b8, b9, b10, b11, b12, b13, b14, b15, b16, b17)) : wpX_slopeOfAll post (nc, lv, le, fc, a1, a2, a3, a4, a5, a6, a7, a8, a9, a10, a11, a12, a13, a14, a15, a16, a17) (nI k) (nI i) := by
  have hn := hG.2.1
  have hkc : (nI k).toNatClampNeg = k := nI_clamp (by omega)
  have d4 := gc_d4 hi
  have m4 := gc_m4 hi
  have hic : (nI (i / 4)).toNatClampNeg = i / 4 := nI_clamp (by omega)
  unfold wpX_slopeOfAll
  dsimp only
  rw [d4, hkc, hic]
  refine gc_isNumber hG hk (fun hw => br_f (by decide) ?_) (fun hw => br_t rfl ?_)
  · refine br_f (nI_pos (by omega)) (pk_le i 11 (fun _ => ?_) (fun z => absurd z (by omega)))
    refine gc_trace hG hk ?_
    intro N f le1 c7 c8 c9 c10 c11 c12 hL hT
    obtain ⟨r, q1, q2, q3, q4⟩ := hT.1 k (by omega)
    have hK := gc_hK1 hG hk hT q2
    refine ⟨vp_in_nI (by omega) (by omega), ?_⟩
    show wpX_backwards _ _ (c12 k)
    rw [q1]
    refine gc_backwards hL q2 (q3.trans hw) (by omega) ?_
    intro N' f' le2 d7 d8 d9 d10 d11 h' d13 d14 hL' hX hS hPS hC
    have e1 : ∀ e, gc_oS a5 a6 G k i e = (gc_rv (gc_Ee a5 a6 e) f' (h' (i / 4)) (i % 4)).1 := by
      intro e
      unfold gc_oS
      rw [if_neg (by rw [hw]; exact Bool.false_ne_true), (gc_slopeVal (a5 := a5) (a6 := a6) (N' := 0) q4 hPS e hi (fun _ _ => 0)).1]
    have ho := hS (i / 4) (by omega)
    have room : N' ≤ 109 := by
      have := hC (fun _ => 1) 0
      rw [gc_S_one, gc_S_one] at this
      have z : gc_S (fun k => gc_pc (fun _ => 1) 0 k - 0) f (r + 1) = gc_S (gc_pc (fun _ => 1) 0) f (r + 1) := rfl
      omega
    refine ⟨by decide, vp_in_nI (by omega) (by omega), ?_⟩
    cases hx : h' (i / 4) with
    | none =>
      rw [hx] at ho e1
      have e2 : d14 (i / 4) = -1 := ho
      refine nm_r e2 (br_f gc_le_neg ?_)
      have t := hp le2 fc d7 d8 d9 d10 d11 c12 d13 d14 a15 a16 a17
      rw [e1 0, e1 1, e1 2] at t
      exact t
    | some p =>
      rw [hx] at ho e1
      obtain ⟨e2, p1, p2⟩ := ho
      have hN' := hL'.2.1
      refine nm_r e2 (br_t (nI_pos' (n := p) (by omega)) ?_)
      refine gc_workOut (i := 0) (ex := 0) hL' p1 (by omega) (by omega) ⟨p + 1, by omega, Nat.le_add_right _ _⟩ ?_
      rintro fc' b13 b15 b16 b17 ⟨s, s1, s2, s3⟩
      have t := hp le2 fc' d7 d8 d9 d10 d11 c12 b13 d14 b15 b16 b17
      rw [e1 0, e1 1, e1 2] at t
      have key := pk_loop (σ := Int32) (fun m e x => wX_slopeOfAll_64 post (nI i) (nI p) nc lv le2 fc' a1 a2 a3 a4 a5 a6 d7 d8 d9 d10 d11 c12 b13 d14 b15 b16 b17 m x (nI e))
        (fun e x => x = gc_s12 (fun e => (gc_val (gc_Ee a5 a6 e) f' p (i % 4)).1) e) 3 0 0 (by omega) rfl ?_ ?_
      · exact key
      · intro m x hx
        refine pk_le 3 3 (fun _ => ?_) (fun z => absurd z (by omega))
        have e3 : x = (gc_val (gc_Ee a5 a6 0) f' p (i % 4)).1 + (gc_val (gc_Ee a5 a6 1) f' p (i % 4)).1 + (gc_val (gc_Ee a5 a6 2) f' p (i % 4)).1 := by
          rw [hx]
          show 0 + _ + _ + _ = _
          rw [Int32.zero_add]
        rw [e3]
        exact t
      · intro m e x he hx hw
        refine pk_le 3 e (fun z => absurd z (by omega)) (fun _ => ⟨by decide, ?_⟩)
        rw [d4, m4]
        refine gc_laneOf hL' p1 s1 s2 he (Nat.mod_lt _ (by omega)) (s3 e he) (fun w => gc_flat _ (fun j hj => (hL'.2.2 j hj).2) p p1 w) ?_
        refine nm_e (nm_r (nI_1 e) (hw _ ?_))
        rw [hx]
        rfl
  · have t := hp le fc a7 a8 a9 a10 a11 a12 a13 a14 a15 a16 a17
    have e1 : ∀ e, gc_oS a5 a6 G k i e = 0 := fun e => if_pos hw
    rw [e1, e1, e1] at t
    exact t
theorem gc_stepX {post : Int32 → St1 → Prop} (hG : gc_G n G nc a1 a2 a3 a4) {k i e : Nat} {rate : Int32} (hk : k < n) (hi : i < 3) (he : e < 3)
    (hp : ∀ (x : Int32) (b5 : Nat → Int32) (le' fc' : Int32) (b7 b8 b9 b10 b11 b12 b13 b14 b15 b16 b17 : Nat → Int32), post x (nc, lv, le', fc', a1, a2, a3, a4, b5, a6, b7, b8, b9, b10, b11, b12, b13, b14, b15, b16, b17)) : wpX_step post (nc, lv, le, fc, a1, a2, a3, a4, a5, a6, a7, a8, a9, a10, a11, a12, a13, a14, a15, a16, a17) (nI k) (nI i) (nI e) rate := by
  have hn := hG.2.1
  have hkc : (nI k).toNatClampNeg = k := nI_clamp (by omega)
  have hic : (nI i).toNatClampNeg = i := nI_clamp (by omega)
  unfold wpX_step
  dsimp only
  rw [hkc, hic]
  refine gc_isNumber hG hk (fun hw => br_f (by decide) ?_) (fun hw => br_t rfl (hp 0 a5 le fc a7 a8 a9 a10 a11 a12 a13 a14 a15 a16 a17))
  refine br_f (nI_pos (by omega)) (pk_lt 2 i (fun z => absurd z (by omega)) (fun _ => br_f (nI_pos (by omega)) (pk_le e 2 (fun _ => ?_) (fun z => absurd z (by omega)))))
  refine gc_trace hG hk ?_
  intro N f le1 c7 c8 c9 c10 c11 c12 hL hT
  obtain ⟨r, q1, q2, q3, q4⟩ := hT.1 k (by omega)
  have hK := gc_hK1 hG hk hT q2
  refine ⟨vp_in_nI (by omega) (by omega), ?_⟩
  show wpX_backwards _ _ (c12 k)
  rw [q1]
  refine gc_backwards hL q2 (q3.trans hw) (by omega) ?_
  intro N' f' le2 d7 d8 d9 d10 d11 h' d13 d14 hL' hX hS hPS hC
  have ho := hS i hi
  have room : N' ≤ 109 := by
    have := hC (fun _ => 1) 0
    rw [gc_S_one, gc_S_one] at this
    have z : gc_S (fun k => gc_pc (fun _ => 1) 0 k - 0) f (r + 1) = gc_S (gc_pc (fun _ => 1) 0) f (r + 1) := rfl
    omega
  refine ⟨vp_in_nI (by omega) (by omega), ?_⟩
  cases hx : h' i with
  | none =>
    rw [hx] at ho
    have e2 : d14 i = -1 := ho
    exact nm_r e2 (br_f gc_le_neg (hp 1 a5 le2 fc d7 d8 d9 d10 d11 c12 d13 d14 a15 a16 a17))
  | some p =>
    rw [hx] at ho
    obtain ⟨e2, p1, p2⟩ := ho
    have hN' := hL'.2.1
    refine nm_r e2 (br_t (nI_pos' (n := p) (by omega)) ?_)
    refine gc_workOut (i := 0) (ex := 0) hL' p1 (by omega) (by omega) ⟨p + 1, by omega, Nat.le_add_right _ _⟩ ?_
    rintro fc' b13 b15 b16 b17 ⟨s, s1, s2, s3⟩
    have key := pk_loop (σ := Nat → Int32) (fun m c x => wX_step_70 post (nI i) (nI e) rate (nI p) nc lv le2 fc' m (nI c) a1 a2 a3 a4 x a6 d7 d8 d9 d10 d11 c12 b13 d14 b15 b16 b17)
      (fun c x => True) 4 0 a5 (by omega) trivial ?_ ?_
    · exact key
    · intro m x _
      exact pk_le 4 4 (fun _ => hp 1 x le2 fc' d7 d8 d9 d10 d11 c12 b13 d14 b15 b16 b17) (fun z => absurd z (by omega))
    · intro m c x hc _ hw
      refine pk_le 4 c (fun z => absurd z (by omega)) (fun _ => ?_)
      refine gc_laneOf hL' p1 s1 s2 he hc (s3 e he) (fun w => gc_flat _ (fun j hj => (hL'.2.2 j hj).2) p p1 w) ?_
      rw [gc_ix]
      exact ⟨vp_in_nI (by omega) (by omega), vp_in_nI (by omega) (by omega), nm_e (nm_r (nI_1 c) (hw _ trivial))⟩
end
end
section
section
variable {nc lv le fc : Int32} {a1 a2 a3 a4 a5 a6 a7 a8 a9 a10 a11 a12 a13 a14 a15 a16 a17 : Nat → Int32}
variable {n : Nat} {G : Nat → gc_Op}
theorem gc_bend {post : Int32 → St1 → Prop} (hG : gc_G n G nc a1 a2 a3 a4) {k i j e : Nat} (hk : k < n) (hi : i < 12) (hj : j < 12) (he : e < 3)
    (hp : ∀ (le' fc' : Int32) (b7 b8 b9 b10 b11 b12 b13 b14 b15 b16 b17 : Nat → Int32), post (gc_oB a5 a6 G k i j e) (nc, lv, le', fc', a1, a2, a3, a4, a5, a6, b7, b8, b9, b10, b11, b12, b13, b14, b15, b16, b17)) : wpX_bend post (nc, lv, le, fc, a1, a2, a3, a4, a5, a6, a7, a8, a9, a10, a11, a12, a13, a14, a15, a16, a17) (nI k) (nI i) (nI j) (nI e) := by
  have hn := hG.2.1
  have hkc : (nI k).toNatClampNeg = k := nI_clamp (by omega)
  have d4 := gc_d4 hi
  have m4 := gc_m4 hi
  have hic : (nI (i / 4)).toNatClampNeg = i / 4 := nI_clamp (by omega)
  have d4j := gc_d4 hj
  have m4j := gc_m4 hj
  have hjc : (nI (j / 4)).toNatClampNeg = j / 4 := nI_clamp (by omega)
  unfold wpX_bend
  dsimp only
  rw [d4, m4, hkc, hic, d4j, m4j, hjc]
  refine gc_isNumber hG hk (fun hw => br_f (by decide) ?_) (fun hw => br_t rfl ?_)
  · refine gc_isComponent hi he (br_f (by decide) (gc_isComponent hj he (br_f (by decide) ?_)))
    refine gc_trace hG hk ?_
    intro N f le1 c7 c8 c9 c10 c11 c12 hL hT
    obtain ⟨r, q1, q2, q3, q4⟩ := hT.1 k (by omega)
    have hK := gc_hK1 hG hk hT q2
    refine ⟨vp_in_nI (by omega) (by omega), ?_⟩
    show wpX_backwards _ _ (c12 k)
    rw [q1]
    refine gc_backwards hL q2 (q3.trans hw) (by omega) ?_
    intro N1 f1 le2 d7 d8 d9 d10 d11 h1 d13 d14 hL1 hX1 hS1 hPS1 hC1
    have ho := hS1 (i / 4) (by omega)
    have SV := (gc_slopeVal (a5 := a5) (a6 := a6) (N' := 0) q4 hPS1 e hi (gc_ut j)).2
    have e1 : gc_oB a5 a6 G k i j e = (gc_rv (gc_EU a5 a6 e (gc_ut i) (gc_ut j)) f1 (h1 (i / 4)) (i % 4)).2.2.1 := by
      unfold gc_oB
      rw [if_neg (by rw [hw]; exact Bool.false_ne_true), SV]
    have room1 : N1 ≤ 109 := by
      have := hC1 (fun _ => 1) 0
      rw [gc_S_one, gc_S_one] at this
      have z : gc_S (fun k => gc_pc (fun _ => 1) 0 k - 0) f (r + 1) = gc_S (gc_pc (fun _ => 1) 0) f (r + 1) := rfl
      omega
    refine ⟨by decide, vp_in_nI (by omega) (by omega), ?_⟩
    cases hx : h1 (i / 4) with
    | none =>
      rw [hx] at ho e1
      have e2 : d14 (i / 4) = -1 := ho
      refine nm_r e2 (br_f gc_le_neg ?_)
      have t := hp le2 fc d7 d8 d9 d10 d11 c12 d13 d14 a15 a16 a17
      rw [e1] at t
      exact t
    | some p =>
      rw [hx] at ho e1
      obtain ⟨e2, p1, p2⟩ := ho
      refine nm_r e2 (br_t (nI_pos' (n := p) (by omega)) ⟨by decide, ?_⟩)
      have okk : gc_OKk 7 (gc_w (f1 p)) (gc_w (f1 0)) false (nI (i % 4)) := ⟨rfl, p2, i % 4, Nat.mod_lt _ (by omega), rfl⟩
      refine gc_make hL1 (by omega) (7, p, 0, nI (i % 4), false) ⟨(fun _ => p1), (fun u => absurd u Bool.false_ne_true), okk⟩ ?_ rfl rfl rfl rfl rfl
      intro r2 N2 f2 le3 e7 e8 e9 e10 e11 hL2 mk
      have room2 := gc_room2 mk
      have c2 : ∀ t, gc_S t f2 N2 ≤ gc_S t f1 N1 + max (t 7) (t 1) := fun t => mk.2.2.2.2 t
      have hr2 := mk.2.1
      have v2 : ∀ E, gc_val E f2 r2 = fun _ => gc_val E f1 p (i % 4) := by
        intro E
        rw [mk.2.2.2.1 E]
        funext c
        show gc_val E f1 p (nI (i % 4)).toNatClampNeg = _
        rw [gc_clamp_lt (by omega)]
      -- the room for the second pass
      have hK2 : N2 + gc_S (gc_pc (fun _ => 1) 0) f2 (r2 + 1) + 17 ≤ 450 := by
        have s1 := gc_S_mono (gc_pc (fun _ => 1) 0) f2 (show r2 + 1 ≤ N2 by omega)
        have s2 := gc_S_add (fun _ => 1) (gc_pc (fun _ => 1) 0) f2 N2
        rw [gc_S_one] at s2
        have s3 : gc_S (fun k => 1 + gc_pc (fun _ => 1) 0 k) f2 N2 = gc_S gc_W0 f2 N2 := rfl
        have s4 := c2 gc_W0
        have s5 : max (gc_W0 7) (gc_W0 1) = 4 := by decide
        have s6 := hC1 gc_W0 0
        have s7 : gc_S (fun k => gc_pc gc_W0 0 k - 0) f (r + 1) = gc_S (gc_pc gc_W0 0) f (r + 1) := rfl
        have s8 := gc_S_mono (gc_pc gc_W0 0) f (show r + 1 ≤ N by omega)
        have s9 := gc_S_add gc_W0 (gc_pc gc_W0 0) f N
        have s10 : gc_S (fun k => gc_W0 k + gc_pc gc_W0 0 k) f N = gc_S gc_W1 f N := rfl
        have s11 := gc_bnd hG hk hT _ 35 gc_b2
        have s12 : gc_W0 1 = 1 := by decide
        omega
      refine gc_backwards hL2 hr2 mk.2.2.1 hK2 ?_
      intro N3 f3 le4 g7 g8 g9 g10 g11 h3 g13 g14 hL3 hX3 hS3 hPS3 hC3
      refine ⟨by decide, vp_in_nI (by omega) (by omega), by decide, ?_⟩
      have ho3 := hS3 (j / 4) (by omega)
      -- the value
      have e3 : gc_oB a5 a6 G k i j e = (gc_rv (gc_Ee a5 a6 e) f3 (h3 (j / 4)) (j % 4)).1 := by
        have t1 := hPS3 (gc_EU a5 a6 e (gc_ut j) (gc_ut i)) false
        rw [gc_P1, v2] at t1
        simp only [if_false, Bool.false_eq_true] at t1
        have u1 := gc_unit false (fun k => gc_rv (gc_EU a5 a6 e (gc_ut j) (gc_ut i)) f3 (h3 k)) (fun k c => a5 (12 * e + 4 * k + c)) (fun k c => a6 (12 * e + 4 * k + c)) (gc_ut i) hj
        simp only [if_false, Bool.false_eq_true] at u1
        have b1 := gc_rv_base (E := gc_Ee a5 a6 e) (E' := gc_EU a5 a6 e (gc_ut j) (gc_ut i)) rfl rfl f3 (h3 (j / 4)) (j % 4)
        rw [b1]
        refine e1.trans (Eq.trans ?_ (t1.symm.trans u1))
        have sw := gc_swap (fun k c => a5 (12 * e + 4 * k + c)) (fun k c => a6 (12 * e + 4 * k + c)) (gc_ut i) (gc_ut j) f1 p (i % 4)
        have sw' : gc_val (gc_EU a5 a6 e (gc_ut j) (gc_ut i)) f1 p (i % 4) = gc_sw (gc_val (gc_EU a5 a6 e (gc_ut i) (gc_ut j)) f1 p (i % 4)) := sw
        rw [sw']
        rfl
      show wpX_workOut _ _ (g14 (j / 4)) _ _
      cases hy : h3 (j / 4) with
      | none =>
        rw [hy] at ho3 e3
        have e4 : g14 (j / 4) = -1 := ho3
        rw [e4]
        refine gc_workOutN ?_
        have t := hp le4 fc g7 g8 g9 g10 g11 c12 g13 g14 a15 a16 a17
        rw [e3] at t
        exact t
      | some p3 =>
        rw [hy] at ho3 e3
        obtain ⟨e4, w1, w2⟩ := ho3
        rw [e4]
        refine gc_workOut hL3 w1 (Nat.mod_lt _ (by omega)) he ⟨N2, by omega, ?_⟩ ?_
        · have s1 := gc_S_mono gc_bin f3 (show p3 + 1 ≤ N3 by omega)
          have s2 := hC3 gc_bin 1
          have s3 : gc_bin 1 = 0 := by decide
          have s4 : gc_S (fun k => gc_pc gc_bin 1 k - 1) f2 (r2 + 1) = gc_S gc_Bw f2 (r2 + 1) := rfl
          have s5 := gc_S_mono gc_Bw f2 (show r2 + 1 ≤ N2 by omega)
          have s6 := c2 gc_Bw
          have s7 : max (gc_Bw 7) (gc_Bw 1) = 0 := by decide
          have s8 := hC1 gc_Bw 0
          have s9 : gc_S (fun k => gc_pc gc_Bw 0 k - 0) f (r + 1) = gc_S (gc_pc gc_Bw 0) f (r + 1) := rfl
          have s10 := gc_S_mono (gc_pc gc_Bw 0) f (show r + 1 ≤ N by omega)
          have s11 := gc_S_add gc_Bw (gc_pc gc_Bw 0) f N
          have s12 : gc_S (fun k => gc_Bw k + gc_pc gc_Bw 0 k) f N = gc_S gc_Bx f N := rfl
          have s13 := gc_bnd hG hk hT _ 11 gc_b3
          have s14 : gc_Bw 1 = 0 := by decide
          have s15 := gc_S_ext gc_bin (f := f2) (g := f3) N2 (fun i hi => hX3.2 i hi)
          omega
        · intro fc' b13 b15 b16 b17 _
          have t := hp le4 fc' g7 g8 g9 g10 g11 c12 b13 g14 b15 b16 b17
          rw [e3] at t
          exact t
  · have t := hp le fc a7 a8 a9 a10 a11 a12 a13 a14 a15 a16 a17
    have e1 : gc_oB a5 a6 G k i j e = 0 := if_pos hw
    rw [e1] at t
    exact t
theorem gc_oB_sym (a5 a6 : Nat → Int32) (G : Nat → gc_Op) (k i j e : Nat) : gc_oB a5 a6 G k i j e = gc_oB a5 a6 G k j i e := by
  unfold gc_oB
  have sw := gc_swap (fun k c => a5 (12 * e + 4 * k + c)) (fun k c => a6 (12 * e + 4 * k + c)) (gc_ut i) (gc_ut j) G k 0
  have sw' : gc_val (gc_EU a5 a6 e (gc_ut j) (gc_ut i)) G k 0 = gc_sw (gc_val (gc_EU a5 a6 e (gc_ut i) (gc_ut j)) G k 0) := sw
  rw [sw']
  rfl
end
end
section
section
variable {nc lv le fc : Int32} {a1 a2 a3 a4 a5 a6 a7 a8 a9 a10 a11 a12 a13 a14 a15 a16 a17 : Nat → Int32}
variable {n : Nat} {G : Nat → gc_Op}
theorem gc_nodeAdd (hG : gc_G n G nc a1 a2 a3 a4) (hn : n < 12) {o : gc_Op} (ok : gc_OK G n o) {x1 x2 x3 x4 : Int32} (nd : gc_nd o x1 x2 x3 x4) : gc_G (n + 1) (gc_put n G o) (nI (n + 1)) (upd a1 n x1) (upd a2 n x2) (upd a3 n x3) (upd a4 n x4) := by
  refine ⟨rfl, hn, fun i hi => ?_⟩
  by_cases e : i = n
  · subst e
    rw [pk_us, pk_us, pk_us, pk_us, gc_put_at]
    exact ⟨nd, gc_OK_ext (gc_X_put i G o) (Nat.le_refl _) ok⟩
  · rw [pk_un e, pk_un e, pk_un e, pk_un e, gc_put_ne G o e]
    have h := hG.2.2 i (by omega)
    exact ⟨h.1, gc_OK_ext (gc_X_put n G o) (by omega) h.2⟩
theorem gc_nodeG {post : Int32 → St1 → Prop} (hG : gc_G n G nc a1 a2 a3 a4) (hn : n < 12) {k y : Nat} {x : Int32} (hk : k ≤ 10) (hy : y < 12) {o : gc_Op} {wrong : Prop}
    (hof : ∀ q : Int32 → Prop, q 1 → wpX_operandsFit q (nc, lv, le, fc, a1, a2, a3, a4, a5, a6, a7, a8, a9, a10, a11, a12, a13, a14, a15, a16, a17) (nI k) x (nI y))
    (hwr : ∀ q : Int32 → Prop, (¬ wrong → q 0) → (wrong → q 1) → wpX_isWrong q (nc, lv, le, fc, a1, a2, a3, a4, a5, a6, a7, a8, a9, a10, a11, a12, a13, a14, a15, a16, a17) (nI k) x)
    (ok : ¬ wrong → gc_OK G n o) (nd : ¬ wrong → gc_nd o (nI k) x (nI y) (gc_B (gc_w o)))
    (mv : ¬ wrong → ∀ (q : Int32 → Prop) (b1 b2 b3 : Nat → Int32), q (gc_B (gc_w o)) → wpX_makesVector q (nc, lv, le, fc, b1, b2, b3, a4, a5, a6, a7, a8, a9, a10, a11, a12, a13, a14, a15, a16, a17) (nI k) x (nI y))
    (hp : ∀ (G' : Nat → gc_Op) (b1 b2 b3 b4 : Nat → Int32), gc_G (n + 1) G' (nI (n + 1)) b1 b2 b3 b4 → post (nI n) ((nI (n + 1)), lv, le, fc, b1, b2, b3, b4, a5, a6, a7, a8, a9, a10, a11, a12, a13, a14, a15, a16, a17)) (h0 : post (-3) (nc, lv, le, fc, a1, a2, a3, a4, a5, a6, a7, a8, a9, a10, a11, a12, a13, a14, a15, a16, a17)) :
    wpX_node post (nc, lv, le, fc, a1, a2, a3, a4, a5, a6, a7, a8, a9, a10, a11, a12, a13, a14, a15, a16, a17) (nI k) x (nI y) := by
  have hnc := hG.1
  have hc : nc.toNatClampNeg = n := by rw [hnc]; exact nI_clamp (by omega)
  have hin : vp_in nc 12 := by rw [hnc]; exact vp_in_nI hn (by omega)
  have s0 : (nI k).toInt8.toInt32 = nI k := gc_by k (by omega)
  have s3 : (nI y).toInt8.toInt32 = nI y := gc_by y (by omega)
  have n1 : nc + 1 = nI (n + 1) := by rw [hnc]; exact nI_1 n
  unfold wpX_node
  refine pk_lt n 12 (fun _ => br_f (nI_pos (by omega)) (pk_lt 10 k (fun z => absurd z (by omega)) (fun _ => ?_))) (fun z => absurd z (by omega)) hnc
  refine hof _ (br_f (by decide) (hwr _ (fun h => br_t rfl ?_) (fun h => br_f (by decide) h0)))
  refine ⟨hin, nm_e ⟨hin, nm_e ⟨hin, nm_e ?_⟩⟩⟩
  refine mv h _ _ _ _ ⟨hin, nm_e (nm_r n1 ?_)⟩
  have H := gc_nodeAdd hG hn (ok h) (nd h)
  rw [hc, s0, s3, gc_vB]
  have t := hp _ _ _ _ _ H
  rw [hnc]
  exact t
theorem gc_node0 {post : Int32 → St1 → Prop} (hG : gc_G n G nc a1 a2 a3 a4) (hn : n < 12) {j : Nat} (hj : j < 3)
    (hp : ∀ (G' : Nat → gc_Op) (b1 b2 b3 b4 : Nat → Int32), gc_G (n + 1) G' (nI (n + 1)) b1 b2 b3 b4 → post (nI n) ((nI (n + 1)), lv, le, fc, b1, b2, b3, b4, a5, a6, a7, a8, a9, a10, a11, a12, a13, a14, a15, a16, a17)) (h0 : post (-3) (nc, lv, le, fc, a1, a2, a3, a4, a5, a6, a7, a8, a9, a10, a11, a12, a13, a14, a15, a16, a17)) :
    wpX_node post (nc, lv, le, fc, a1, a2, a3, a4, a5, a6, a7, a8, a9, a10, a11, a12, a13, a14, a15, a16, a17) 0 (nI j) 0 := by
  refine gc_nodeG hG hn (k := 0) (y := 0) (o := (0, 0, 0, nI j, true)) (wrong := False) (by omega) (by omega) ?_ ?_ ?_ ?_ ?_ hp h0
  · intro q hq
    unfold wpX_operandsFit
    exact br_f (by decide) (br_t rfl (br_f (nI_pos (by omega)) (pk_lt 2 j (fun z => absurd z (by omega)) (fun _ => hq))))
  · intro q h1 _
    unfold wpX_isWrong
    exact br_f (by decide) (br_f (by decide) (br_f (by decide) (br_f (by decide) (br_f (by decide) (h1 id)))))
  · intro _
    have okk : gc_OKk 0 (gc_w (G 0)) (gc_w (G 0)) true (nI j) := ⟨rfl, j, hj, rfl⟩
    exact ⟨(fun u => absurd u Bool.false_ne_true), (fun u => absurd u Bool.false_ne_true), okk⟩
  · intro _
    exact ⟨rfl, rfl, rfl⟩
  · intro _ q b1 b2 b3 hq
    unfold wpX_makesVector
    exact br_t rfl hq
theorem gc_node1 {post : Int32 → St1 → Prop} (hG : gc_G n G nc a1 a2 a3 a4) (hn : n < 12) (x : Int32)
    (hp : ∀ (G' : Nat → gc_Op) (b1 b2 b3 b4 : Nat → Int32), gc_G (n + 1) G' (nI (n + 1)) b1 b2 b3 b4 → post (nI n) ((nI (n + 1)), lv, le, fc, b1, b2, b3, b4, a5, a6, a7, a8, a9, a10, a11, a12, a13, a14, a15, a16, a17)) (h0 : post (-3) (nc, lv, le, fc, a1, a2, a3, a4, a5, a6, a7, a8, a9, a10, a11, a12, a13, a14, a15, a16, a17)) :
    wpX_node post (nc, lv, le, fc, a1, a2, a3, a4, a5, a6, a7, a8, a9, a10, a11, a12, a13, a14, a15, a16, a17) 1 x 0 := by
  refine gc_nodeG hG hn (k := 1) (y := 0) (o := (1, 0, 0, x, false)) (wrong := False) (by omega) (by omega) ?_ ?_ ?_ ?_ ?_ hp h0
  · intro q hq
    unfold wpX_operandsFit
    exact br_t rfl hq
  · intro q h1 _
    unfold wpX_isWrong
    exact br_f (by decide) (br_f (by decide) (br_f (by decide) (br_f (by decide) (br_f (by decide) (h1 id)))))
  · intro _
    exact ⟨(fun u => absurd u Bool.false_ne_true), (fun u => absurd u Bool.false_ne_true), rfl⟩
  · intro _
    exact ⟨rfl, rfl, rfl⟩
  · intro _ q b1 b2 b3 hq
    unfold wpX_makesVector
    exact br_f (by decide) (br_f (by decide) (br_f (by decide) (br_f (by decide) (br_t rfl hq))))
theorem gc_isNodeN {post : Int32 → Prop} (hnc : nc = nI n) (hn : n ≤ 12) {k : Nat} (hk : k < n) (hp : post 1) : wpX_isNode post (nc, lv, le, fc, a1, a2, a3, a4, a5, a6, a7, a8, a9, a10, a11, a12, a13, a14, a15, a16, a17) (nI k) := by
  unfold wpX_isNode
  exact br_f (nI_pos (by omega)) (pk_le n k (fun z => absurd z (by omega)) (fun _ => hp) hnc)
theorem gc_node2 {post : Int32 → St1 → Prop} (hG : gc_G n G nc a1 a2 a3 a4) (hn : n < 12) {k a b : Nat} (hk : k = 2 ∨ k = 3 ∨ k = 4) (ha : a < n) (hb : b < n)
    (hp : ∀ (G' : Nat → gc_Op) (b1 b2 b3 b4 : Nat → Int32), gc_G (n + 1) G' (nI (n + 1)) b1 b2 b3 b4 → post (nI n) ((nI (n + 1)), lv, le, fc, b1, b2, b3, b4, a5, a6, a7, a8, a9, a10, a11, a12, a13, a14, a15, a16, a17)) (h0 : post (-3) (nc, lv, le, fc, a1, a2, a3, a4, a5, a6, a7, a8, a9, a10, a11, a12, a13, a14, a15, a16, a17)) :
    wpX_node post (nc, lv, le, fc, a1, a2, a3, a4, a5, a6, a7, a8, a9, a10, a11, a12, a13, a14, a15, a16, a17) (nI k) (nI a) (nI b) := by
  have ra : a4 a = gc_B (gc_w (G a)) := (hG.2.2 a ha).1.1
  have rb : a4 b = gc_B (gc_w (G b)) := (hG.2.2 b hb).1.1
  have hca : (nI a).toNatClampNeg = a := nI_clamp (by omega)
  have hcb : (nI b).toNatClampNeg = b := nI_clamp (by omega)
  refine gc_nodeG hG hn (k := k) (y := b) (o := (k, a, b, 0, (gc_w (G a) || gc_w (G b)))) (wrong := False) (by omega) (by omega) ?_ ?_ ?_ ?_ ?_ hp h0
  · intro q hq
    unfold wpX_operandsFit
    refine pk_eq k 1 (fun z => absurd z (by omega)) (fun _ => pk_eq k 0 (fun z => absurd z (by omega)) (fun _ => ?_))
    refine gc_isNodeN hG.1 hG.2.1 ha (br_f (by decide) (pk_lt 4 k (fun z => absurd z (by omega)) (fun _ => ?_)))
    exact gc_isNodeN hG.1 hG.2.1 hb ⟨by decide, hq⟩
  · intro q h1 _
    unfold wpX_isWrong
    exact pk_eq k 5 (fun z => absurd z (by omega)) (fun _ => pk_eq k 6 (fun z => absurd z (by omega)) (fun _ => pk_eq k 7 (fun z => absurd z (by omega)) (fun _ => pk_eq k 10 (fun z => absurd z (by omega)) (fun _ => pk_eq k 8 (fun z => absurd z (by omega)) (fun _ => h1 id)))))
  · intro _
    refine ⟨fun _ => ha, fun _ => hb, ?_⟩
    rcases hk with e | e | e <;> subst e <;> exact rfl
  · intro _
    refine ⟨rfl, ?_⟩
    rcases hk with e | e | e <;> subst e <;> exact ⟨rfl, rfl, rfl, rfl⟩
  · intro _ q b1 b2 b3 hq
    unfold wpX_makesVector
    refine pk_eq k 0 (fun z => absurd z (by omega)) (fun _ => pk_eq k 6 (fun z => absurd z (by omega)) (fun _ => pk_eq k 8 (fun z => absurd z (by omega)) (fun _ => pk_eq k 10 (fun z => absurd z (by omega)) (fun _ => pk_eq k 1 (fun z => absurd z (by omega)) (fun _ => pk_eq k 5 (fun z => absurd z (by omega)) (fun _ => pk_eq k 7 (fun z => absurd z (by omega)) (fun _ => ⟨vp_in_nI (by omega) (by omega), ?_⟩)))))))
    rw [hca, hcb, ra, rb]
    dsimp only [gc_w] at hq ⊢
    cases hwa : (G a).2.2.2.2 with
    | true =>
      rw [hwa] at hq
      exact br_f (by decide) hq
    | false =>
      rw [hwa] at hq
      refine br_t rfl (pk_eq k 9 (fun z => absurd z (by omega)) (fun _ => ⟨vp_in_nI (by omega) (by omega), ?_⟩))
      cases hwb : (G b).2.2.2.2 with
      | true =>
        rw [hwb] at hq
        exact br_f (by decide) hq
      | false =>
        rw [hwb] at hq
        exact br_t rfl hq
/-- the operation of a unary node -/
def gc_uo (k a y : Nat) (wa : Bool) : gc_Op :=
  match k with
  | 5 => (5, a, 0, 0, false)
  | 6 => (6, a, 0, 1, true)
  | 7 => (7, a, 0, nI y, false)
  | 8 => (8, a, 0, 0, true)
  | 9 => (13, a, a, 0, wa)
  | _ => (10, a, 0, 0, true)
theorem gc_nodeU {post : Int32 → St1 → Prop} (hG : gc_G n G nc a1 a2 a3 a4) (hn : n < 12) {k a y : Nat} (hk : 5 ≤ k) (hk2 : k ≤ 10) (ha : a < n) (hy : y < 12) (hy7 : k = 7 → y < 4)
    (hp : ∀ (G' : Nat → gc_Op) (b1 b2 b3 b4 : Nat → Int32), gc_G (n + 1) G' (nI (n + 1)) b1 b2 b3 b4 → post (nI n) ((nI (n + 1)), lv, le, fc, b1, b2, b3, b4, a5, a6, a7, a8, a9, a10, a11, a12, a13, a14, a15, a16, a17)) (h0 : post (-3) (nc, lv, le, fc, a1, a2, a3, a4, a5, a6, a7, a8, a9, a10, a11, a12, a13, a14, a15, a16, a17)) :
    wpX_node post (nc, lv, le, fc, a1, a2, a3, a4, a5, a6, a7, a8, a9, a10, a11, a12, a13, a14, a15, a16, a17) (nI k) (nI a) (nI y) := by
  have ra : a4 a = gc_B (gc_w (G a)) := (hG.2.2 a ha).1.1
  have hca : (nI a).toNatClampNeg = a := nI_clamp (by omega)
  have hina : vp_in (nI a) 12 := vp_in_nI (by omega) (by omega)
  refine gc_nodeG hG hn (k := k) (y := y) (o := gc_uo k a y (gc_w (G a))) (wrong := (k = 8 ∧ gc_w (G a) = true) ∨ ((k = 5 ∨ k = 6 ∨ k = 7 ∨ k = 10) ∧ gc_w (G a) = false)) (by omega) (by omega) ?_ ?_ ?_ ?_ ?_ hp h0
  · intro q hq
    unfold wpX_operandsFit
    refine pk_eq k 1 (fun z => absurd z (by omega)) (fun _ => pk_eq k 0 (fun z => absurd z (by omega)) (fun _ => ?_))
    refine gc_isNodeN hG.1 hG.2.1 ha (br_f (by decide) (pk_lt 4 k (fun _ => ?_) (fun z => absurd z (by omega))))
    exact pk_eq k 7 (fun e => br_f (nI_pos (by omega)) (pk_lt 3 y (fun z => absurd (hy7 e) (by omega)) (fun _ => hq))) (fun _ => hq)
  · intro q h1 h2
    have W23 : (k = 5 ∨ k = 6 ∨ k = 7 ∨ k = 10) → wX_isWrong_23 q (nI a) nc lv le fc a1 a2 a3 a4 a5 a6 a7 a8 a9 a10 a11 a12 a13 a14 a15 a16 a17 := by
      intro hk'
      unfold wX_isWrong_23
      rw [hca, ra]
      refine ⟨hina, br_c (fun z => h2 (Or.inr ⟨hk', gc_B0.mp z⟩)) (fun z => h1 (fun y => ?_))⟩
      rcases y with y | y
      · omega
      · exact z (gc_B0.mpr y.2)
    unfold wpX_isWrong
    refine pk_eq k 5 (fun e => W23 (by omega)) (fun _ => pk_eq k 6 (fun e => W23 (by omega)) (fun _ => pk_eq k 7 (fun e => W23 (by omega)) (fun _ => pk_eq k 10 (fun e => W23 (by omega)) (fun _ => pk_eq k 8 (fun e => ⟨hina, ?_⟩) (fun _ => h1 (fun y => by omega))))))
    rw [hca, ra]
    refine br_c (fun z => h1 (fun y => ?_)) (fun z => h2 (Or.inl ⟨e, ?_⟩))
    · rcases y with y | y
      · rw [y.2] at z
        exact absurd z (by decide)
      · omega
    · cases hx : gc_w (G a)
      · exact absurd (gc_B0.mpr hx) z
      · rfl
  · intro hr
    have wt : (k = 5 ∨ k = 6 ∨ k = 7 ∨ k = 10) → gc_w (G a) = true := by
      intro h
      cases hx : gc_w (G a)
      · exact absurd (Or.inr ⟨h, hx⟩) hr
      · rfl
    have wf : k = 8 → gc_w (G a) = false := by
      intro h
      cases hx : gc_w (G a)
      · rfl
      · exact absurd (Or.inl ⟨h, hx⟩) hr
    match k, hk, hk2 with
    | 5, _, _ =>
      have t : gc_OKk 5 (gc_w (G a)) (gc_w (G 0)) false 0 := ⟨rfl, wt (by omega)⟩
      exact ⟨fun _ => ha, (fun u => absurd u Bool.false_ne_true), t⟩
    | 6, _, _ =>
      have t : gc_OKk 6 (gc_w (G a)) (gc_w (G 0)) true 1 := ⟨rfl, wt (by omega), 1, by omega, by omega, rfl⟩
      exact ⟨fun _ => ha, (fun u => absurd u Bool.false_ne_true), t⟩
    | 7, _, _ =>
      have t : gc_OKk 7 (gc_w (G a)) (gc_w (G 0)) false (nI y) := ⟨rfl, wt (by omega), y, hy7 rfl, rfl⟩
      exact ⟨fun _ => ha, (fun u => absurd u Bool.false_ne_true), t⟩
    | 8, _, _ =>
      have t : gc_OKk 8 (gc_w (G a)) (gc_w (G 0)) true 0 := ⟨rfl, wf rfl⟩
      exact ⟨fun _ => ha, (fun u => absurd u Bool.false_ne_true), t⟩
    | 9, _, _ =>
      have t : gc_OKk 13 (gc_w (G a)) (gc_w (G a)) (gc_w (G a)) 0 := ⟨rfl, rfl⟩
      exact ⟨fun _ => ha, fun _ => ha, t⟩
    | 10, _, _ =>
      have t : gc_OKk 10 (gc_w (G a)) (gc_w (G 0)) true 0 := ⟨rfl, wt (by omega)⟩
      exact ⟨fun _ => ha, (fun u => absurd u Bool.false_ne_true), t⟩
  · intro _
    match k, hk, hk2 with
    | 5, _, _ => exact ⟨rfl, rfl, rfl, rfl⟩
    | 6, _, _ => exact ⟨rfl, rfl, rfl, rfl⟩
    | 7, _, _ => exact ⟨rfl, rfl, rfl, rfl⟩
    | 8, _, _ => exact ⟨rfl, rfl, rfl, rfl⟩
    | 9, _, _ => exact ⟨rfl, rfl, rfl, rfl, rfl⟩
    | 10, _, _ => exact ⟨rfl, rfl, rfl, rfl⟩
  · intro _ q b1 b2 b3 hq
    unfold wpX_makesVector
    match k, hk, hk2 with
    | 5, _, _ => exact br_f (by decide) (br_f (by decide) (br_f (by decide) (br_f (by decide) (br_f (by decide) (br_t rfl hq)))))
    | 6, _, _ => exact br_f (by decide) (br_t rfl hq)
    | 7, _, _ => exact br_f (by decide) (br_f (by decide) (br_f (by decide) (br_f (by decide) (br_f (by decide) (br_f (by decide) (br_t rfl hq))))))
    | 8, _, _ => exact br_f (by decide) (br_f (by decide) (br_t rfl hq))
    | 9, _, _ =>
      refine br_f (by decide) (br_f (by decide) (br_f (by decide) (br_f (by decide) (br_f (by decide) (br_f (by decide) (br_f (by decide) ⟨hina, ?_⟩))))))
      rw [hca, ra]
      have hq' : q (gc_B (gc_w (G a))) := hq
      cases hwa : gc_w (G a) with
      | true =>
        rw [hwa] at hq'
        exact br_f (by decide) hq'
      | false =>
        rw [hwa] at hq'
        exact br_t rfl (br_t rfl hq')
    | 10, _, _ => exact br_f (by decide) (br_f (by decide) (br_f (by decide) (br_t rfl hq)))
theorem gc_made {post : Int32 → St1 → Prop} (hG : gc_G n G nc a1 a2 a3 a4) (hn : n < 12) (w x y : Int32)
    (hp : ∀ (G' : Nat → gc_Op) (b1 b2 b3 b4 : Nat → Int32), gc_G (n + 1) G' (nI (n + 1)) b1 b2 b3 b4 → post (nI n) ((nI (n + 1)), lv, le, fc, b1, b2, b3, b4, a5, a6, a7, a8, a9, a10, a11, a12, a13, a14, a15, a16, a17)) (h0 : post (-3) (nc, lv, le, fc, a1, a2, a3, a4, a5, a6, a7, a8, a9, a10, a11, a12, a13, a14, a15, a16, a17)) :
    wpL_made post (nc, lv, le, fc, a1, a2, a3, a4, a5, a6, a7, a8, a9, a10, a11, a12, a13, a14, a15, a16, a17) w x y (nI n) := by
  obtain ⟨jw, hjw, ew⟩ := pk_andE w (m := 255) 8 (by decide)
  obtain ⟨jx, hjx, ex⟩ := pk_andE x (m := 255) 8 (by decide)
  obtain ⟨jy, hjy, ey⟩ := pk_andE y (m := 255) 8 (by decide)
  obtain ⟨jz, hjz, ez⟩ := pk_andE y (m := 3) 2 (by decide)
  have kd : (w &&& 255) - (w &&& 255) / 11 * 11 = nI (jw % 11) := by rw [ew]; exact pk_rem (d := 11) (by omega) (by decide) (by decide)
  have k3 : (x &&& 255) - (x &&& 255) / 3 * 3 = nI (jx % 3) := by rw [ex]; exact pk_rem (d := 3) (by omega) (by decide) (by decide)
  have hkd : jw % 11 < 11 := Nat.mod_lt _ (by omega)
  have M58 : wL_made_58 post x nc lv le fc a1 a2 a3 a4 a5 a6 a7 a8 a9 a10 a11 a12 a13 a14 a15 a16 a17 := by
    unfold wL_made_58
    rw [k3]
    exact ⟨by decide, gc_node0 hG hn (Nat.mod_lt _ (by omega)) hp h0⟩
  unfold wpL_made
  refine ⟨by decide, nm_r kd ?_⟩
  refine pk_eq n 0 (fun e0 => ?_) (fun e0 => ⟨nI_ne0 (by omega) (by omega), ?_⟩)
  · unfold wL_made_27
    refine pk_eq n 0 (fun _ => ?_) (fun z => absurd e0 z)
    unfold wL_made_46
    exact br_c (fun _ => M58) (fun _ => pk_eq n 0 (fun _ => M58) (fun z => absurd e0 z))
  · have ka : (x &&& 255) - (x &&& 255) / nI n * nI n = nI (jx % n) := by rw [ex]; exact pk_rem (by omega) (by omega) (by omega)
    have kb : (y &&& 255) - (y &&& 255) / nI n * nI n = nI (jy % n) := by rw [ey]; exact pk_rem (by omega) (by omega) (by omega)
    have ha : jx % n < n := Nat.mod_lt _ (by omega)
    have hb : jy % n < n := Nat.mod_lt _ (by omega)
    unfold wL_made_27
    refine pk_eq n 0 (fun z => absurd z e0) (fun _ => ⟨nI_ne0 (by omega) (by omega), ?_⟩)
    rw [ka, kb]
    unfold wL_made_46
    rw [ez]
    refine pk_eq (jw % 11) 0 (fun _ => M58) (fun k0 => pk_eq n 0 (fun z => absurd z e0) (fun _ => pk_eq (jw % 11) 1 (fun _ => ⟨by decide, gc_node1 hG hn _ hp h0⟩) (fun k1 => pk_eq (jw % 11) 7 (fun k7 => ?_) (fun k7 => ?_))))
    · unfold wL_made_109
      exact gc_nodeU hG hn (by omega) (by omega) ha (by omega) (fun _ => by omega) hp h0
    · unfold wL_made_109
      by_cases h5 : 5 ≤ jw % 11
      · exact gc_nodeU hG hn h5 (by omega) ha (by omega) (fun z => absurd z k7) hp h0
      · exact gc_node2 hG hn (by omega) ha hb hp h0
end
end
section
section
variable {nc lv le fc : Int32} {a1 a2 a3 a4 a5 a6 a7 a8 a9 a10 a11 a12 a13 a14 a15 a16 a17 : Nat → Int32}
variable {n : Nat} {G : Nat → gc_Op}
abbrev gc_Z : Type := Int32 × Int32 × (Nat → Int32) × (Nat → Int32) × (Nat → Int32) × (Nat → Int32) × (Nat → Int32) × (Nat → Int32) × (Nat → Int32) × (Nat → Int32) × (Nat → Int32) × (Nat → Int32) × (Nat → Int32)
def gc_h1 (a5 a6 : Nat → Int32) (G : Nat → gc_Op) (k e : Nat) (h : Int32) : Nat → Int32
  | 0 => h
  | i + 1 => ((31 * gc_h1 a5 a6 G k e h i) + gc_oV a5 a6 G k i e) + (7 * gc_oA a5 a6 G k i e)
def gc_h2 (a5 a6 : Nat → Int32) (G : Nat → gc_Op) (i e : Nat) : Nat → Int32
  | 0 => 0
  | k + 1 => (((31 * gc_h1 a5 a6 G k e (gc_h2 a5 a6 G i e k) 4) + gc_oS a5 a6 G k i e) + (5 * gc_oB a5 a6 G k i (11 - i) e)) + (11 * (gc_oS a5 a6 G k i 0 + gc_oS a5 a6 G k i 1 + gc_oS a5 a6 G k i 2))
theorem gc_sum15 {post : Int32 → St1 → Prop} {J : Int32 → Int32 → Int32 → Int32 → Int32 → Int32 → (Nat → Int32) → (Nat → Int32) → (Nat → Int32) → (Nat → Int32) → (Nat → Int32) → (Nat → Int32) → (Nat → Int32) → (Nat → Int32) → (Nat → Int32) → (Nat → Int32) → (Nat → Int32) → (Nat → Int32) → (Nat → Int32) → (Nat → Int32) → (Nat → Int32) → (Nat → Int32) → (Nat → Int32) → Prop} {x1 h : Int32} (hG : gc_G n G nc a1 a2 a3 a4) {k i e : Nat} (hk : k < n) (hi : i < 12) (he : e < 3)
    (hJ : ∀ (le' fc' : Int32) (b7 b8 b9 b10 b11 b12 b13 b14 b15 b16 b17 : Nat → Int32), J ((((31 * gc_h1 a5 a6 G k e h 4) + gc_oS a5 a6 G k i e) + (5 * gc_oB a5 a6 G k i (11 - i) e)) + (11 * (gc_oS a5 a6 G k i 0 + gc_oS a5 a6 G k i 1 + gc_oS a5 a6 G k i 2))) (nI (k + 1)) nc lv le' fc' a1 a2 a3 a4 a5 a6 b7 b8 b9 b10 b11 b12 b13 b14 b15 b16 b17) :
    ∃ m, wL_sum_15 post J x1 (nI i) (nI e) (nI k) m h 0 nc lv le fc a1 a2 a3 a4 a5 a6 a7 a8 a9 a10 a11 a12 a13 a14 a15 a16 a17 := by
  have h11 : (11 : Int32) - nI i = nI (11 - i) := pk_sub (a := 11) (by omega)
  have key := pk_loop (σ := Int32 × gc_Z) (fun m c s => wL_sum_15 post J x1 (nI i) (nI e) (nI k) m s.1 (nI c) nc lv s.2.1 s.2.2.1 a1 a2 a3 a4 a5 a6 s.2.2.2.1 s.2.2.2.2.1 s.2.2.2.2.2.1 s.2.2.2.2.2.2.1 s.2.2.2.2.2.2.2.1 s.2.2.2.2.2.2.2.2.1 s.2.2.2.2.2.2.2.2.2.1 s.2.2.2.2.2.2.2.2.2.2.1 s.2.2.2.2.2.2.2.2.2.2.2.1 s.2.2.2.2.2.2.2.2.2.2.2.2.1 s.2.2.2.2.2.2.2.2.2.2.2.2.2) (fun c s => s.1 = gc_h1 a5 a6 G k e h c) 4 0 (h, (le, fc, a7, a8, a9, a10, a11, a12, a13, a14, a15, a16, a17)) (by omega) rfl ?_ ?_
  · exact key
  · rintro m ⟨x, ⟨le', fc', b7, b8, b9, b10, b11, b12, b13, b14, b15, b16, b17⟩⟩ hx
    dsimp only at hx ⊢
    subst hx
    refine pk_le 4 4 (fun _ => ?_) (fun z => absurd z (by omega))
    rw [h11]
    refine gc_slope hG hk hi he ?_
    intro le1 fc1 c7 c8 c9 c10 c11 c12 c13 c14 c15 c16 c17 _
    refine gc_bend hG hk hi (by omega) he ?_
    intro le2 fc2 d7 d8 d9 d10 d11 d12 d13 d14 d15 d16 d17
    refine gc_slopeOfAll hG hk hi ?_
    intro le3 fc3 e7 e8 e9 e10 e11 e12 e13 e14 e15 e16 e17
    exact nm_e (nm_r (nI_1 k) (hJ le3 fc3 e7 e8 e9 e10 e11 e12 e13 e14 e15 e16 e17))
  · rintro m c ⟨x, ⟨le', fc', b7, b8, b9, b10, b11, b12, b13, b14, b15, b16, b17⟩⟩ hc hx hw
    dsimp only at hx hw ⊢
    subst hx
    refine pk_le 4 c (fun z => absurd z (by omega)) (fun _ => ?_)
    refine gc_value hG hk hc he ?_
    intro le1 fc1 c7 c8 c9 c10 c11 c12 c13 c14 c15 c16 c17
    refine gc_along hG hk hc he ?_
    intro le2 fc2 d7 d8 d9 d10 d11 d12 d13 d14 d15 d16 d17
    exact nm_e (nm_r (nI_1 c) (hw (_, le2, fc2, d7, d8, d9, d10, d11, d12, d13, d14, d15, d16, d17) rfl))
theorem gc_sum {post : Int32 → St1 → Prop} (hG : gc_G n G nc a1 a2 a3 a4) {i e : Nat} (hi : i < 12) (he : e < 3) (hp : ∀ (le' fc' : Int32) (b7 b8 b9 b10 b11 b12 b13 b14 b15 b16 b17 : Nat → Int32), post (gc_h2 a5 a6 G i e n) (nc, lv, le', fc', a1, a2, a3, a4, a5, a6, b7, b8, b9, b10, b11, b12, b13, b14, b15, b16, b17)) : wpL_sum post (nc, lv, le, fc, a1, a2, a3, a4, a5, a6, a7, a8, a9, a10, a11, a12, a13, a14, a15, a16, a17) (nI n) (nI i) (nI e) := by
  have hn := hG.2.1
  unfold wpL_sum
  have key := pk_loop (σ := Int32 × gc_Z) (fun m k s => wL_sum_6 post (nI n) (nI i) (nI e) m s.1 (nI k) nc lv s.2.1 s.2.2.1 a1 a2 a3 a4 a5 a6 s.2.2.2.1 s.2.2.2.2.1 s.2.2.2.2.2.1 s.2.2.2.2.2.2.1 s.2.2.2.2.2.2.2.1 s.2.2.2.2.2.2.2.2.1 s.2.2.2.2.2.2.2.2.2.1 s.2.2.2.2.2.2.2.2.2.2.1 s.2.2.2.2.2.2.2.2.2.2.2.1 s.2.2.2.2.2.2.2.2.2.2.2.2.1 s.2.2.2.2.2.2.2.2.2.2.2.2.2) (fun k s => s.1 = gc_h2 a5 a6 G i e k) n 0 (0, (le, fc, a7, a8, a9, a10, a11, a12, a13, a14, a15, a16, a17)) (by omega) rfl ?_ ?_
  · exact key
  · rintro m ⟨x, ⟨le', fc', b7, b8, b9, b10, b11, b12, b13, b14, b15, b16, b17⟩⟩ hx
    dsimp only at hx ⊢
    subst hx
    exact pk_le n n (fun _ => hp le' fc' b7 b8 b9 b10 b11 b12 b13 b14 b15 b16 b17) (fun z => absurd z (by omega))
  · rintro m k ⟨x, ⟨le', fc', b7, b8, b9, b10, b11, b12, b13, b14, b15, b16, b17⟩⟩ hk hx hw
    dsimp only at hx hw ⊢
    subst hx
    refine pk_le n k (fun z => absurd z (by omega)) (fun _ => ?_)
    refine gc_sum15 hG hk hi he ?_
    intro le1 fc1 c7 c8 c9 c10 c11 c12 c13 c14 c15 c16 c17
    exact hw (_, le1, fc1, c7, c8, c9, c10, c11, c12, c13, c14, c15, c16, c17) rfl
end
end
section
section
variable {nc lv le fc : Int32} {a1 a2 a3 a4 a5 a6 a7 a8 a9 a10 a11 a12 a13 a14 a15 a16 a17 : Nat → Int32}
variable {n : Nat} {G : Nat → gc_Op}
/-- what the law keeps of a direction's component -/
def gc_dv (x : Int64) (c : Int32) : Int32 := ((((x.toUInt64 >>> ((5 * c).toInt64.toUInt64 &&& Int64.toUInt64 63)).toInt64).toInt32) &&& 31) - 16
def gc_aim (x : Int64) (a6 : Nat → Int32) (e : Nat) : Prop := ∀ c, c < 12 → gc_dv x (nI c) = a6 (12 * e + c)
theorem gc_isVector {post : Int32 → Prop} (hG : gc_G n G nc a1 a2 a3 a4) {k : Nat} (hk : k < n) (h0 : gc_w (G k) = false → post 0) (h1 : gc_w (G k) = true → post 1) : wpX_isVector post (nc, lv, le, fc, a1, a2, a3, a4, a5, a6, a7, a8, a9, a10, a11, a12, a13, a14, a15, a16, a17) (nI k) := by
  have hn := hG.2.1
  have hc : (nI k).toNatClampNeg = k := nI_clamp (by omega)
  have r4 : a4 k = gc_B (gc_w (G k)) := (hG.2.2 k hk).1.1
  unfold wpX_isVector
  refine gc_isNode hG hk (br_f (by decide) ⟨vp_in_nI (by omega) (by omega), ?_⟩)
  rw [hc, r4]
  refine br_c (fun z => h0 (gc_B0.mp z)) (fun z => h1 ?_)
  cases hx : gc_w (G k)
  · exact absurd (gc_B0.mpr hx) z
  · rfl
theorem gc_alongLaw {a5 a6 : Nat → Int32} {G : Nat → gc_Op} {k e : Nat} {x : Int64} (hw : gc_w (G k) = false) (hlin : gc_linear a5 a6 G k) (ha : gc_aim x a6 e) : gc_oA a5 a6 G k 0 e = gc_s12 (fun c => gc_oS a5 a6 G k c e * gc_dv x (nI c)) 12 := by
  unfold gc_oA
  rw [if_neg (fun z => z.2 rfl), hlin]
  refine gc_s12_ext 12 (fun i hi => ?_)
  unfold gc_oS
  rw [if_neg (by rw [hw]; exact Bool.false_ne_true), ha i hi]
  have : 12 * e + 4 * (i / 4) + i % 4 = 12 * e + i := by omega
  rw [this]
theorem gc_holds98 {post : Int32 → St1 → Prop} {J : Int32 → Int32 → Int32 → Int32 → Int32 → (Nat → Int32) → (Nat → Int32) → (Nat → Int32) → (Nat → Int32) → (Nat → Int32) → (Nat → Int32) → (Nat → Int32) → (Nat → Int32) → (Nat → Int32) → (Nat → Int32) → (Nat → Int32) → (Nat → Int32) → (Nat → Int32) → (Nat → Int32) → (Nat → Int32) → (Nat → Int32) → (Nat → Int32) → Prop} {x1 x3 : Int32} {x5 : Int64} (hG : gc_G n G nc a1 a2 a3 a4) {k i e : Nat} (hk : k < n) (hi : i < 12) (he : e < 3) (hw : gc_w (G k) = false) (ha : gc_aim x5 a6 e)
    (hJ : ∀ (le' fc' : Int32) (b7 b8 b9 b10 b11 b12 b13 b14 b15 b16 b17 : Nat → Int32), J (nI (k + 1)) nc lv le' fc' a1 a2 a3 a4 a5 a6 b7 b8 b9 b10 b11 b12 b13 b14 b15 b16 b17) : ∃ m, wL_holds_98 post J x1 (nI i) x3 (nI e) x5 (nI k) m 0 0 nc lv le fc a1 a2 a3 a4 a5 a6 a7 a8 a9 a10 a11 a12 a13 a14 a15 a16 a17 := by
  have key := pk_loop (σ := Int32 × gc_Z) (fun m c s => wL_holds_98 post J x1 (nI i) x3 (nI e) x5 (nI k) m s.1 (nI c) nc lv s.2.1 s.2.2.1 a1 a2 a3 a4 a5 a6 s.2.2.2.1 s.2.2.2.2.1 s.2.2.2.2.2.1 s.2.2.2.2.2.2.1 s.2.2.2.2.2.2.2.1 s.2.2.2.2.2.2.2.2.1 s.2.2.2.2.2.2.2.2.2.1 s.2.2.2.2.2.2.2.2.2.2.1 s.2.2.2.2.2.2.2.2.2.2.2.1 s.2.2.2.2.2.2.2.2.2.2.2.2.1 s.2.2.2.2.2.2.2.2.2.2.2.2.2) (fun c s => s.1 = gc_s12 (fun c => gc_oS a5 a6 G k c e * gc_dv x5 (nI c)) c ∧ (0 < c → gc_linear a5 a6 G k)) 12 0 (0, (le, fc, a7, a8, a9, a10, a11, a12, a13, a14, a15, a16, a17)) (by omega) ⟨rfl, fun z => absurd z (by omega)⟩ ?_ ?_
  · exact key
  · rintro m ⟨x, ⟨le', fc', b7, b8, b9, b10, b11, b12, b13, b14, b15, b16, b17⟩⟩ ⟨hx, hlin⟩
    dsimp only at hx ⊢
    subst hx
    refine pk_le 12 12 (fun _ => ?_) (fun z => absurd z (by omega))
    refine gc_along (i := 0) hG hk (by omega) he ?_
    intro le1 fc1 c7 c8 c9 c10 c11 c12 c13 c14 c15 c16 c17
    refine br_t (gc_alongLaw hw (hlin (by omega)) ha) ?_
    refine gc_slopeOfAll hG hk hi ?_
    intro le2 fc2 d7 d8 d9 d10 d11 d12 d13 d14 d15 d16 d17
    refine gc_slope (e := 0) hG hk hi (by omega) ?_
    intro le3 fc3 e7 e8 e9 e10 e11 e12 e13 e14 e15 e16 e17 _
    refine gc_slope (e := 1) hG hk hi (by omega) ?_
    intro le4 fc4 f7 f8 f9 f10 f11 f12 f13 f14 f15 f16 f17 _
    refine gc_slope (e := 2) hG hk hi (by omega) ?_
    intro le5 fc5 g7 g8 g9 g10 g11 g12 g13 g14 g15 g16 g17 _
    exact br_t rfl (nm_r (nI_1 k) (hJ le5 fc5 g7 g8 g9 g10 g11 g12 g13 g14 g15 g16 g17))
  · rintro m c ⟨x, ⟨le', fc', b7, b8, b9, b10, b11, b12, b13, b14, b15, b16, b17⟩⟩ hc ⟨hx, _⟩ hw'
    dsimp only at hx hw' ⊢
    subst hx
    refine pk_le 12 c (fun z => absurd z (by omega)) (fun _ => ?_)
    refine gc_slope hG hk hc he ?_
    intro le1 fc1 c7 c8 c9 c10 c11 c12 c13 c14 c15 c16 c17 hl
    exact nm_e (nm_r (nI_1 c) (hw' (_, le1, fc1, c7, c8, c9, c10, c11, c12, c13, c14, c15, c16, c17) ⟨rfl, fun _ => hl hw⟩))
theorem gc_holds52 {post : Int32 → St1 → Prop} {x5 : Int64} (hG : gc_G n G nc a1 a2 a3 a4) {i j e : Nat} (hi : i < 12) (hj : j < 12) (he : e < 3) (ha : gc_aim x5 a6 e) (hp : ∀ (le' fc' : Int32) (b7 b8 b9 b10 b11 b12 b13 b14 b15 b16 b17 : Nat → Int32), post 1 (nc, lv, le', fc', a1, a2, a3, a4, a5, a6, b7, b8, b9, b10, b11, b12, b13, b14, b15, b16, b17)) :
    ∃ m, wL_holds_52 post (nI n) (nI i) (nI j) (nI e) x5 m 0 nc lv le fc a1 a2 a3 a4 a5 a6 a7 a8 a9 a10 a11 a12 a13 a14 a15 a16 a17 := by
  have hn := hG.2.1
  have key := pk_loop (σ := gc_Z) (fun m k s => wL_holds_52 post (nI n) (nI i) (nI j) (nI e) x5 m (nI k) nc lv s.1 s.2.1 a1 a2 a3 a4 a5 a6 s.2.2.1 s.2.2.2.1 s.2.2.2.2.1 s.2.2.2.2.2.1 s.2.2.2.2.2.2.1 s.2.2.2.2.2.2.2.1 s.2.2.2.2.2.2.2.2.1 s.2.2.2.2.2.2.2.2.2.1 s.2.2.2.2.2.2.2.2.2.2.1 s.2.2.2.2.2.2.2.2.2.2.2.1 s.2.2.2.2.2.2.2.2.2.2.2.2) (fun _ _ => True) n 0 (le, fc, a7, a8, a9, a10, a11, a12, a13, a14, a15, a16, a17) (by omega) trivial ?_ ?_
  · exact key
  · rintro m ⟨le', fc', b7, b8, b9, b10, b11, b12, b13, b14, b15, b16, b17⟩ _
    exact pk_le n n (fun _ => hp le' fc' b7 b8 b9 b10 b11 b12 b13 b14 b15 b16 b17) (fun z => absurd z (by omega))
  · rintro m k ⟨le', fc', b7, b8, b9, b10, b11, b12, b13, b14, b15, b16, b17⟩ hk _ hw
    dsimp only at hw ⊢
    refine pk_le n k (fun z => absurd z (by omega)) (fun _ => ?_)
    refine gc_bend hG hk hi hj he ?_
    intro le1 fc1 c7 c8 c9 c10 c11 c12 c13 c14 c15 c16 c17
    refine gc_bend hG hk hj hi he ?_
    intro le2 fc2 d7 d8 d9 d10 d11 d12 d13 d14 d15 d16 d17
    refine br_t (gc_oB_sym a5 a6 G k i j e) ?_
    refine gc_isVector hG hk (fun hv => br_t rfl ?_) (fun hv => br_f (by decide) (nm_r (nI_1 k) ?_))
    · refine gc_holds98 hG hk hi he hv ha ?_
      intro le3 fc3 e7 e8 e9 e10 e11 e12 e13 e14 e15 e16 e17
      exact hw (le3, fc3, e7, e8, e9, e10, e11, e12, e13, e14, e15, e16, e17) trivial
    · exact hw (le2, fc2, d7, d8, d9, d10, d11, d12, d13, d14, d15, d16, d17) trivial
theorem gc_holds {post : Int32 → St1 → Prop} {x5 : Int64} (hG : gc_G n G nc a1 a2 a3 a4) {i j e : Nat} (hi : i < 12) (hj : j < 12) (he : e < 3) (ha : gc_aim x5 a6 e) (hp : ∀ (lv' : Int32) (le' fc' : Int32) (b7 b8 b9 b10 b11 b12 b13 b14 b15 b16 b17 : Nat → Int32), post 1 (nc, lv', le', fc', a1, a2, a3, a4, a5, a6, b7, b8, b9, b10, b11, b12, b13, b14, b15, b16, b17)) :
    wpL_holds post (nc, lv, le, fc, a1, a2, a3, a4, a5, a6, a7, a8, a9, a10, a11, a12, a13, a14, a15, a16, a17) (nI n) (nI i) (nI j) (nI e) x5 := by
  unfold wpL_holds
  refine gc_sum hG hi he ?_
  intro le1 fc1 c7 c8 c9 c10 c11 c12 c13 c14 c15 c16 c17
  have key := pk_loop (σ := Int32 × gc_Z) (fun m l s => wL_holds_13 post (nI n) (nI i) (nI j) (nI e) x5 (gc_h2 a5 a6 G i e n) m (nI l) nc s.1 s.2.1 s.2.2.1 a1 a2 a3 a4 a5 a6 s.2.2.2.1 s.2.2.2.2.1 s.2.2.2.2.2.1 s.2.2.2.2.2.2.1 s.2.2.2.2.2.2.2.1 s.2.2.2.2.2.2.2.2.1 s.2.2.2.2.2.2.2.2.2.1 s.2.2.2.2.2.2.2.2.2.2.1 s.2.2.2.2.2.2.2.2.2.2.2.1 s.2.2.2.2.2.2.2.2.2.2.2.2.1 s.2.2.2.2.2.2.2.2.2.2.2.2.2) (fun _ _ => True) 3 0 (lv, le1, fc1, c7, c8, c9, c10, c11, c12, c13, c14, c15, c16, c17) (by omega) trivial ?_ ?_
  · exact key
  · rintro m ⟨lv', ⟨le', fc', b7, b8, b9, b10, b11, b12, b13, b14, b15, b16, b17⟩⟩ _
    refine pk_le 3 3 (fun _ => ?_) (fun z => absurd z (by omega))
    exact gc_holds52 hG hi hj he ha (hp lv')
  · rintro m l ⟨lv', ⟨le', fc', b7, b8, b9, b10, b11, b12, b13, b14, b15, b16, b17⟩⟩ hl _ hw
    dsimp only at hw ⊢
    refine pk_le 3 l (fun z => absurd z (by omega)) (fun _ => ?_)
    unfold wpX_level
    refine br_f (nI_pos (by omega)) (pk_le l 2 (fun _ => br_f (by decide) ?_) (fun z => absurd z (by omega)))
    refine gc_sum hG hi he ?_
    intro le2 fc2 d7 d8 d9 d10 d11 d12 d13 d14 d15 d16 d17
    exact br_t rfl (nm_r (nI_1 l) (hw (_, le2, fc2, d7, d8, d9, d10, d11, d12, d13, d14, d15, d16, d17) trivial))
end
end
section
/-! rows of the kit: laws/BITS.to-paste (the families wb_ and lN_xor), as they stand there -/
section
theorem wb_tb (n : Nat) : (lN n).toBitVec = BitVec.ofNat 64 n := rfl
theorem wb_inj {a b : Int64} (h : a.toBitVec = b.toBitVec) : a = b := Int64.toBitVec_inj.mp h
theorem wb_tn {n : Nat} (h : n < 2 ^ 64) : (lN n).toBitVec.toNat = n := by rw [wb_tb, BitVec.toNat_ofNat, Nat.mod_eq_of_lt h]
theorem wb_of (x : Int64) : ∃ n, n < 2 ^ 64 ∧ x = lN n := ⟨x.toBitVec.toNat, x.toBitVec.isLt, wb_inj (by rw [wb_tb]; simp)⟩
theorem wb_of32 (x : Int32) : ∃ n, n < 2 ^ 32 ∧ x = nI n := ⟨x.toBitVec.toNat, x.toBitVec.isLt, Int32.toBitVec_inj.mp (by show _ = BitVec.ofNat 32 _; simp)⟩
theorem wb_c : ∀ k, k < 64 → ((nI k).toInt64 &&& 63) = lN k := by decide +kernel
theorem wb_cu : ∀ k, k < 64 → ((nI k).toInt64.toUInt64 &&& Int64.toUInt64 63) = UInt64.ofNat k := by decide +kernel
theorem wb_sm : ∀ k, k < 64 → (BitVec.ofNat 64 k).smod 64 = BitVec.ofNat 64 k := by decide +kernel
theorem wb_pw {a b : Nat} (h : a ≤ b) : 2 ^ b = 2 ^ a * 2 ^ (b - a) := by rw [← Nat.pow_add]; congr 1; omega
theorem wb_lt2 {a b : Nat} (h : a < b) : 2 ^ a < 2 ^ b := Nat.pow_lt_pow_right (by decide) h
theorem wb_mod (n : Nat) : lN n = lN (n % 2 ^ 64) := wb_inj (by rw [wb_tb, wb_tb]; apply BitVec.eq_of_toNat_eq; rw [BitVec.toNat_ofNat, BitVec.toNat_ofNat, Nat.mod_mod])
theorem wb_shr {n k : Nat} (hn : n < 2 ^ 64) (hk : k < 64) : ((lN n).toUInt64 >>> ((nI k).toInt64.toUInt64 &&& Int64.toUInt64 63)).toInt64 = lN (n / 2 ^ k) := by
  rw [wb_cu k hk]
  apply wb_inj
  apply BitVec.eq_of_toNat_eq
  show ((lN n).toUInt64 >>> UInt64.ofNat k).toNat = (BitVec.ofNat 64 _).toNat
  have h1 : (UInt64.ofNat k).toNat = k := by
    show (BitVec.ofNat 64 k).toNat = k
    rw [BitVec.toNat_ofNat, Nat.mod_eq_of_lt (by omega)]
  have h2 : (lN n).toUInt64.toNat = n := wb_tn hn
  rw [UInt64.toNat_shiftRight, h1, h2, Nat.mod_eq_of_lt hk, Nat.shiftRight_eq_div_pow, BitVec.toNat_ofNat, Nat.mod_eq_of_lt (Nat.lt_of_le_of_lt (Nat.div_le_self _ _) hn)]
theorem wb_shl (n : Nat) {k : Nat} (hk : k < 64) : lN n <<< ((nI k).toInt64 &&& 63) = lN (n * 2 ^ k) := by
  rw [wb_c k hk]
  apply wb_inj
  rw [Int64.toBitVec_shiftLeft, wb_tb, wb_tb, wb_tb, wb_sm k hk]
  apply BitVec.eq_of_toNat_eq
  rw [BitVec.shiftLeft_eq', BitVec.toNat_shiftLeft, BitVec.toNat_ofNat, BitVec.toNat_ofNat, BitVec.toNat_ofNat, Nat.mod_eq_of_lt (show k < 2 ^ 64 by omega), Nat.shiftLeft_eq, Nat.mul_mod, Nat.mod_mod, ← Nat.mul_mod]
theorem wb_and {a b : Nat} (ha : a < 2 ^ 64) (hb : b < 2 ^ 64) : lN a &&& lN b = lN (a &&& b) := by
  apply wb_inj
  rw [Int64.toBitVec_and, wb_tb, wb_tb, wb_tb]
  apply BitVec.eq_of_toNat_eq
  rw [BitVec.toNat_and, BitVec.toNat_ofNat, BitVec.toNat_ofNat, BitVec.toNat_ofNat, Nat.mod_eq_of_lt ha, Nat.mod_eq_of_lt hb, Nat.mod_eq_of_lt (Nat.and_lt_two_pow _ hb)]
theorem wb_or {a b : Nat} (ha : a < 2 ^ 64) (hb : b < 2 ^ 64) : lN a ||| lN b = lN (a ||| b) := by
  apply wb_inj
  rw [Int64.toBitVec_or, wb_tb, wb_tb, wb_tb]
  apply BitVec.eq_of_toNat_eq
  rw [BitVec.toNat_or, BitVec.toNat_ofNat, BitVec.toNat_ofNat, BitVec.toNat_ofNat, Nat.mod_eq_of_lt ha, Nat.mod_eq_of_lt hb, Nat.mod_eq_of_lt (Nat.or_lt_two_pow ha hb)]
theorem wb_bv (n : Nat) : (lN n).toBitVec = BitVec.ofNat 64 n := rfl
theorem wb_nat {n : Nat} (h : n < 2 ^ 64) : (lN n).toBitVec.toNat = n := by rw [wb_bv, BitVec.toNat_ofNat]; exact Nat.mod_eq_of_lt h
theorem wb_xo (a b : Nat) : lN a ^^^ lN b = lN (a ^^^ b) := by
  apply Int64.toBitVec_inj.mp; rw [Int64.toBitVec_xor, wb_bv, wb_bv, wb_bv]; apply BitVec.eq_of_getLsbD_eq; intro i hi; simp [BitVec.getLsbD_ofNat, Nat.testBit_xor, hi]
end
section
/-- the five bits of component c -/
def gc_dg (x : Int64) (c : Nat) : Nat := x.toBitVec.toNat / 2 ^ (5 * c) % 32
theorem gc_dgX {X Y c : Nat} (hY : Y < 32) (h : ∀ j, j < 5 → X.testBit (5 * c + j) = Y.testBit j) : X / 2 ^ (5 * c) % 32 = Y := by
  apply Nat.eq_of_testBit_eq
  intro j
  rw [show (32 : Nat) = 2 ^ 5 from rfl, Nat.testBit_mod_two_pow, Nat.testBit_div_two_pow]
  by_cases hj : j < 5
  · rw [decide_eq_true hj, Bool.true_and]
    have := h j hj
    rw [← this]
    congr 1
    omega
  · rw [decide_eq_false hj, Bool.false_and]
    have h2 : 2 ^ 5 ≤ 2 ^ j := Nat.pow_le_pow_right (by decide) (by omega)
    exact (Nat.testBit_lt_two_pow (by omega)).symm
theorem gc_dg_bit (X c j : Nat) (hj : j < 5) : (X / 2 ^ (5 * c) % 32).testBit j = X.testBit (5 * c + j) := by
  rw [show (32 : Nat) = 2 ^ 5 from rfl, Nat.testBit_mod_two_pow, Nat.testBit_div_two_pow, decide_eq_true hj, Bool.true_and]
  congr 1
  omega
theorem gc_5 (c : Nat) : (5 : Int32) * nI c = nI (5 * c) := pk_mul 5 c
theorem gc_dv_dg (x : Int64) {c : Nat} (hc : c < 12) : gc_dv x (nI c) = nI (gc_dg x c) - 16 := by
  obtain ⟨X, hX, rfl⟩ := wb_of x
  unfold gc_dv gc_dg
  rw [gc_5, wb_shr hX (by omega), lN_i, wb_tn hX, pk_and (nI (X / 2 ^ (5 * c))) (m := 31) 5 (by decide)]
  congr 2
  show BitVec.toNat (BitVec.ofNat 32 _) % 2 ^ 5 = _
  rw [BitVec.toNat_ofNat, Nat.mod_mod_of_dvd _ (by decide)]
theorem gc_sh5 {d i : Nat} (hd : d < 32) (hi : i < 12) : d * 2 ^ (5 * i) < 2 ^ 64 := by
  have h1 : d * 2 ^ (5 * i) < 2 ^ 5 * 2 ^ (5 * i) := Nat.mul_lt_mul_of_pos_right hd (Nat.two_pow_pos _)
  rw [← Nat.pow_add] at h1
  exact Nat.lt_of_lt_of_le h1 (Nat.pow_le_pow_right (by decide) (by omega))
theorem gc_shB (d i m : Nat) : (d * 2 ^ (5 * i)).testBit m = (decide (5 * i ≤ m) && d.testBit (m - 5 * i)) := by
  rw [Nat.testBit_mul_two_pow]
/-- a component is written -/
theorem gc_dg_put (x : Int64) {d i c : Nat} (hd : d < 32) (hi : i < 12) (hc : c < 12) :
    gc_dg ((x &&& (((31 : Int64) <<< ((5 * nI i).toInt64 &&& 63)) ^^^ (-1))) ||| ((nI d).toInt64 <<< ((5 * nI i).toInt64 &&& 63))) c = if c = i then d else gc_dg x c := by
  obtain ⟨X, hX, rfl⟩ := wb_of x
  have e31 : (31 : Int64) = lN 31 := rfl
  have em : (-1 : Int64) = lN (2 ^ 64 - 1) := by decide +kernel
  have hm : (2 ^ 64 - 1) < 2 ^ 64 := by decide
  have h31 := gc_sh5 (d := 31) (by decide) hi
  have hdd := gc_sh5 hd hi
  have hxr : (31 * 2 ^ (5 * i)) ^^^ (2 ^ 64 - 1) < 2 ^ 64 := Nat.xor_lt_two_pow h31 hm
  have hand : X &&& ((31 * 2 ^ (5 * i)) ^^^ (2 ^ 64 - 1)) < 2 ^ 64 := Nat.and_lt_two_pow _ hxr
  rw [gc_5, e31, wb_shl 31 (by omega), em, wb_xo, wb_and hX hxr, nI_l (by omega), wb_shl d (by omega), wb_or hand hdd]
  unfold gc_dg
  rw [wb_tn (Nat.or_lt_two_pow hand hdd), wb_tn hX]
  by_cases e : c = i
  · subst e
    rw [if_pos rfl]
    refine gc_dgX hd (fun j hj => ?_)
    have t31 : (31 : Nat).testBit j = true := by
      rw [show (31 : Nat) = 2 ^ 5 - 1 from rfl, Nat.testBit_two_pow_sub_one]
      exact decide_eq_true hj
    rw [Nat.testBit_or, Nat.testBit_and, Nat.testBit_xor, gc_shB, gc_shB, Nat.testBit_two_pow_sub_one]
    rw [decide_eq_true (show 5 * c ≤ 5 * c + j by omega), decide_eq_true (show 5 * c + j < 64 by omega), show 5 * c + j - 5 * c = j by omega, t31]
    simp
  · rw [if_neg e]
    refine gc_dgX (Nat.mod_lt _ (by decide)) (fun j hj => ?_)
    rw [gc_dg_bit X c j hj, Nat.testBit_or, Nat.testBit_and, Nat.testBit_xor, gc_shB, gc_shB, Nat.testBit_two_pow_sub_one]
    rw [decide_eq_true (show 5 * c + j < 64 by omega)]
    by_cases h : 5 * i ≤ 5 * c + j
    · have hb : 5 ≤ 5 * c + j - 5 * i := by omega
      have h2 : 2 ^ 5 ≤ 2 ^ (5 * c + j - 5 * i) := Nat.pow_le_pow_right (by decide) hb
      rw [decide_eq_true h, Nat.testBit_lt_two_pow (show 31 < 2 ^ (5 * c + j - 5 * i) by omega), Nat.testBit_lt_two_pow (show d < 2 ^ (5 * c + j - 5 * i) by omega)]
      simp
    · rw [decide_eq_false h]
      simp
theorem gc_dg_or (x : Int64) {i c : Nat} (hi : i < 12) (hc : c < 12) (h0 : gc_dg x i = 0) : gc_dg (x ||| ((16 : Int64) <<< ((5 * nI i).toInt64 &&& 63))) c = if c = i then 16 else gc_dg x c := by
  obtain ⟨X, hX, rfl⟩ := wb_of x
  have e16 : (16 : Int64) = lN 16 := rfl
  have h16 := gc_sh5 (d := 16) (by decide) hi
  unfold gc_dg at h0
  rw [wb_tn hX] at h0
  rw [gc_5, e16, wb_shl 16 (by omega), wb_or hX h16]
  unfold gc_dg
  rw [wb_tn (Nat.or_lt_two_pow hX h16), wb_tn hX]
  by_cases e : c = i
  · subst e
    rw [if_pos rfl]
    refine gc_dgX (by decide) (fun j hj => ?_)
    have hz : X.testBit (5 * c + j) = false := by
      rw [← gc_dg_bit X c j hj, h0]
      exact Nat.zero_testBit j
    rw [Nat.testBit_or, hz, gc_shB, decide_eq_true (show 5 * c ≤ 5 * c + j by omega), show 5 * c + j - 5 * c = j by omega]
    simp
  · rw [if_neg e]
    refine gc_dgX (Nat.mod_lt _ (by decide)) (fun j hj => ?_)
    rw [gc_dg_bit X c j hj, Nat.testBit_or, gc_shB]
    by_cases h : 5 * i ≤ 5 * c + j
    · have hb : 5 ≤ 5 * c + j - 5 * i := by omega
      have h2 : 2 ^ 5 ≤ 2 ^ (5 * c + j - 5 * i) := Nat.pow_le_pow_right (by decide) hb
      rw [Nat.testBit_lt_two_pow (show 16 < 2 ^ (5 * c + j - 5 * i) by omega)]
      simp
    · rw [decide_eq_false h]
      simp
/-- aiming at one component of one example -/
theorem gc_aim_put {x : Int64} {a6 : Nat → Int32} {e i d : Nat} (h : gc_aim x a6 e) (hi : i < 12) (hd : d < 32) :
    gc_aim ((x &&& (((31 : Int64) <<< ((5 * nI i).toInt64 &&& 63)) ^^^ (-1))) ||| ((nI d).toInt64 <<< ((5 * nI i).toInt64 &&& 63))) (upd a6 (12 * e + i) (nI d - 16)) e := by
  intro c hc
  rw [gc_dv_dg _ hc, gc_dg_put x hd hi hc]
  by_cases ec : c = i
  · rw [if_pos ec, ec, pk_us]
  · rw [if_neg ec, pk_un (by omega), ← gc_dv_dg x hc]
    exact h c hc
theorem gc_aim_keep {x : Int64} {a6 : Nat → Int32} {e e' i : Nat} {v : Int32} (h : gc_aim x a6 e) (hi : i < 12) (hne : e ≠ e') : gc_aim x (upd a6 (12 * e' + i) v) e := by
  intro c hc
  rw [pk_un (by omega)]
  exact h c hc
end
end
section
section
variable {nc lv le fc : Int32} {a1 a2 a3 a4 a5 a6 a7 a8 a9 a10 a11 a12 a13 a14 a15 a16 a17 : Nat → Int32}
variable {n : Nat} {G : Nat → gc_Op}
theorem gc_law356 {post : Int32 → Prop} {L : Nat} {xs : Nat → Int32} {J : Int32 → Int64 → Int64 → Int64 → Int32 → Int32 → Int32 → Int32 → Int32 → (Nat → Int32) → (Nat → Int32) → (Nat → Int32) → (Nat → Int32) → (Nat → Int32) → (Nat → Int32) → (Nat → Int32) → (Nat → Int32) → (Nat → Int32) → (Nat → Int32) → (Nat → Int32) → (Nat → Int32) → (Nat → Int32) → (Nat → Int32) → (Nat → Int32) → (Nat → Int32) → (Nat → Int32) → Prop} {kc ks : Nat} (hG : gc_G n G nc a1 a2 a3 a4) {i j e : Nat} (hi : i < 12) (hj : j < 12) (he : e < 3) {x3 x5 x7 : Int64} (h0 : gc_aim x3 a6 0) (h1 : gc_aim x5 a6 1) (h2 : gc_aim x7 a6 2) {x9 : Int32}
    (hJ : ∀ (lv' : Int32) (le' fc' : Int32) (b7 b8 b9 b10 b11 b12 b13 b14 b15 b16 b17 : Nat → Int32), J (nI n) x3 x5 x7 (x9 + 3) nc lv' le' fc' a1 a2 a3 a4 a5 a6 b7 b8 b9 b10 b11 b12 b13 b14 b15 b16 b17) : wL_law_356 post L xs J (nI n) x3 x5 x7 x9 (nI i) (nI j) (nI e) kc ks nc lv le fc a1 a2 a3 a4 a5 a6 a7 a8 a9 a10 a11 a12 a13 a14 a15 a16 a17 := by
  have H : ∀ z0, gc_aim z0 a6 e → wL_law_386 post L xs J (nI n) x3 x5 x7 x9 z0 (nI e) (nI j) (nI i) (nI n) kc ks nc lv le fc a1 a2 a3 a4 a5 a6 a7 a8 a9 a10 a11 a12 a13 a14 a15 a16 a17 := by
    intro z0 hz
    unfold wL_law_386
    refine gc_holds hG hi hj he hz ?_
    intro lv' le' fc' b7 b8 b9 b10 b11 b12 b13 b14 b15 b16 b17
    exact br_f (by decide) (nm_e (hJ lv' le' fc' b7 b8 b9 b10 b11 b12 b13 b14 b15 b16 b17))
  unfold wL_law_356
  refine pk_eq e 0 (fun z => H x3 (by rw [z]; exact h0)) (fun z0 => pk_eq e 1 (fun z => H x5 (by rw [z]; exact h1)) (fun z1 => H x7 ?_))
  have : e = 2 := by omega
  rw [this]
  exact h2
/-- what the law keeps -/
def gc_INV (x2 : Int32) (x3 x5 x7 : Int64) (nc : Int32) (a1 a2 a3 a4 a6 : Nat → Int32) : Prop :=
  ∃ n G, x2 = nI n ∧ gc_G n G nc a1 a2 a3 a4 ∧ gc_aim x3 a6 0 ∧ gc_aim x5 a6 1 ∧ gc_aim x7 a6 2
theorem gc_law331 {post : Int32 → Prop} {L : Nat} {xs : Nat → Int32} {J : Int32 → Int64 → Int64 → Int64 → Int32 → Int32 → Int32 → Int32 → Int32 → (Nat → Int32) → (Nat → Int32) → (Nat → Int32) → (Nat → Int32) → (Nat → Int32) → (Nat → Int32) → (Nat → Int32) → (Nat → Int32) → (Nat → Int32) → (Nat → Int32) → (Nat → Int32) → (Nat → Int32) → (Nat → Int32) → (Nat → Int32) → (Nat → Int32) → (Nat → Int32) → (Nat → Int32) → Prop} {kc ks : Nat} (hG : gc_G n G nc a1 a2 a3 a4) (hn : n < 12) {i j e : Nat} (hi : i < 12) (hj : j < 12) (he : e < 3) {x3 x5 x7 : Int64} (h0 : gc_aim x3 a6 0) (h1 : gc_aim x5 a6 1) (h2 : gc_aim x7 a6 2) {x9 x10 x11 : Int32} (hin : vp_in x9 L)
    (hJ : ∀ (x2 : Int32) (nc' lv' : Int32) (b1 b2 b3 b4 : Nat → Int32) (le' fc' : Int32) (b7 b8 b9 b10 b11 b12 b13 b14 b15 b16 b17 : Nat → Int32), gc_INV x2 x3 x5 x7 nc' b1 b2 b3 b4 a6 → J x2 x3 x5 x7 (x9 + 3) nc' lv' le' fc' b1 b2 b3 b4 a5 a6 b7 b8 b9 b10 b11 b12 b13 b14 b15 b16 b17) : wL_law_331 post L xs J (nI n) x3 x5 x7 x9 x10 x11 (nI i) (nI j) (nI e) kc ks nc lv le fc a1 a2 a3 a4 a5 a6 a7 a8 a9 a10 a11 a12 a13 a14 a15 a16 a17 := by
  unfold wL_law_331
  refine ⟨hin, ?_⟩
  refine gc_made hG hn _ _ _ ?_ ?_
  · intro G' b1 b2 b3 b4 hG'
    refine br_f (nI_pos (by omega)) (nm_r (nI_1 n) ?_)
    exact gc_law356 hG' hi hj he h0 h1 h2 (fun lv' le' fc' b7 b8 b9 b10 b11 b12 b13 b14 b15 b16 b17 => hJ _ _ lv' b1 b2 b3 b4 le' fc' b7 b8 b9 b10 b11 b12 b13 b14 b15 b16 b17 ⟨n + 1, G', rfl, hG', h0, h1, h2⟩)
  · refine br_t (by decide) ?_
    exact gc_law356 hG hi hj he h0 h1 h2 (fun lv' le' fc' b7 b8 b9 b10 b11 b12 b13 b14 b15 b16 b17 => hJ _ _ lv' a1 a2 a3 a4 le' fc' b7 b8 b9 b10 b11 b12 b13 b14 b15 b16 b17 ⟨n, G, rfl, hG, h0, h1, h2⟩)
theorem gc_lawBody {post : Int32 → Prop} {L : Nat} {xs : Nat → Int32} {kc ks m t : Nat} (hL : L ≤ 260) (ht : t < L / 3) (hG : gc_G n G nc a1 a2 a3 a4) {x3 x5 x7 : Int64} (h0 : gc_aim x3 a6 0) (h1 : gc_aim x5 a6 1) (h2 : gc_aim x7 a6 2)
    (hJ : ∀ (x2 : Int32) (x3 x5 x7 : Int64) (nc' lv' : Int32) (b1 b2 b3 b4 b5 b6 : Nat → Int32) (le' fc' : Int32) (b7 b8 b9 b10 b11 b12 b13 b14 b15 b16 b17 : Nat → Int32), gc_INV x2 x3 x5 x7 nc' b1 b2 b3 b4 b6 → wL_law_54 post L xs kc ks m x2 x3 x5 x7 (nI (3 * (t + 1))) nc' lv' le' fc' b1 b2 b3 b4 b5 b6 b7 b8 b9 b10 b11 b12 b13 b14 b15 b16 b17) :
    wL_law_54 post L xs kc ks (m + 1) (nI n) x3 x5 x7 (nI (3 * t)) nc lv le fc a1 a2 a3 a4 a5 a6 a7 a8 a9 a10 a11 a12 a13 a14 a15 a16 a17 := by
  have hn := hG.2.1
  have i1 : nI (3 * t) + 1 = nI (3 * t + 1) := nI_1 _
  have i2 : nI (3 * t) + 2 = nI (3 * t + 2) := nI_add (3 * t) 2
  have i3 : nI (3 * t) + 3 = nI (3 * (t + 1)) := nI_add (3 * t) 3
  have hl3 : Int32.ofNat L - 3 = nI (L - 3) := pk_sub (b := 3) (by omega)
  have hin : vp_in (nI (3 * t)) L := vp_in_nI (by omega) (by omega)
  unfold wL_law_54
  rw [hl3, i1, i2]
  refine pk_lt (L - 3) (3 * t) (fun z => absurd z (by omega)) (fun _ => ⟨vp_in_nI (by omega) (by omega), nm_e ⟨vp_in_nI (by omega) (by omega), nm_e ?_⟩⟩)
  generalize xs (nI (3 * t + 1)).toNatClampNeg = x10
  generalize xs (nI (3 * t + 2)).toNatClampNeg = x11
  obtain ⟨ja, hja, ea⟩ := pk_andE x10 (m := 255) 8 (by decide)
  obtain ⟨jb, hjb, eb⟩ := pk_andE (x10 >>> ((8 : Int32) &&& 31)) (m := 255) 8 (by decide)
  obtain ⟨jc, hjc, ec⟩ := pk_andE (x10 >>> ((16 : Int32) &&& 31)) (m := 255) 8 (by decide)
  have ra : (x10 &&& 255) - (x10 &&& 255) / 12 * 12 = nI (ja % 12) := by rw [ea]; exact pk_rem (d := 12) (by omega) (by decide) (by decide)
  have rb : ((x10 >>> ((8 : Int32) &&& 31)) &&& 255) - ((x10 >>> ((8 : Int32) &&& 31)) &&& 255) / 12 * 12 = nI (jb % 12) := by rw [eb]; exact pk_rem (d := 12) (by omega) (by decide) (by decide)
  have rc : ((x10 >>> ((16 : Int32) &&& 31)) &&& 255) - ((x10 >>> ((16 : Int32) &&& 31)) &&& 255) / 3 * 3 = nI (jc % 3) := by rw [ec]; exact pk_rem (d := 3) (by omega) (by decide) (by decide)
  have hi : ja % 12 < 12 := Nat.mod_lt _ (by omega)
  have hj : jb % 12 < 12 := Nat.mod_lt _ (by omega)
  have he : jc % 3 < 3 := Nat.mod_lt _ (by omega)
  refine ⟨by decide, nm_r ra ⟨by decide, nm_r rb ⟨by decide, nm_r rc ⟨hin, ?_⟩⟩⟩⟩
  revert hi hj he
  generalize ja % 12 = i
  generalize jb % 12 = j
  generalize jc % 3 = e
  intro hi hj he
  obtain ⟨kk, hkk, ek⟩ := pk_andE (xs (nI (3 * t)).toNatClampNeg >>> ((8 : Int32) &&& 31)) (m := 7) 3 (by decide)
  refine nm_r ek ?_
  have DEF : ((nI n = 12 → wpX_forget (fun r u => match u with | (u0, u1, u2, u3, v1, v2, v3, v4, v5, v6, v7, v8, v9, v10, v11, v12, v13, v14, v15, v16, v17) => ((r = 12 → wL_law_331 post L xs (wL_law_54 post L xs kc ks m) 0 x3 x5 x7 (nI (3 * t)) x10 x11 (nI i) (nI j) (nI e) kc ks u0 u1 u2 u3 v1 v2 v3 v4 v5 v6 v7 v8 v9 v10 v11 v12 v13 v14 v15 v16 v17) ∧ (¬ r = 12 → post 0))) (nc, lv, le, fc, a1, a2, a3, a4, a5, a6, a7, a8, a9, a10, a11, a12, a13, a14, a15, a16, a17)) ∧ (¬ nI n = 12 → wL_law_331 post L xs (wL_law_54 post L xs kc ks m) (nI n) x3 x5 x7 (nI (3 * t)) x10 x11 (nI i) (nI j) (nI e) kc ks nc lv le fc a1 a2 a3 a4 a5 a6 a7 a8 a9 a10 a11 a12 a13 a14 a15 a16 a17)) := by
    refine pk_eq n 12 (fun z => ?_) (fun z => ?_)
    · unfold wpX_forget
      refine br_t (by rw [hG.1, z]; rfl) ?_
      have hG0 : gc_G 0 G 0 a1 a2 a3 a4 := ⟨rfl, by omega, fun i hi => absurd hi (by omega)⟩
      refine gc_law331 (n := 0) hG0 (by omega) hi hj he h0 h1 h2 hin ?_
      intro x2 nc' lv' b1 b2 b3 b4 le' fc' b7 b8 b9 b10 b11 b12 b13 b14 b15 b16 b17 hv
      rw [i3]
      exact hJ x2 x3 x5 x7 nc' lv' b1 b2 b3 b4 a5 a6 le' fc' b7 b8 b9 b10 b11 b12 b13 b14 b15 b16 b17 hv
    · refine gc_law331 hG (by omega) hi hj he h0 h1 h2 hin ?_
      intro x2 nc' lv' b1 b2 b3 b4 le' fc' b7 b8 b9 b10 b11 b12 b13 b14 b15 b16 b17 hv
      rw [i3]
      exact hJ x2 x3 x5 x7 nc' lv' b1 b2 b3 b4 a5 a6 le' fc' b7 b8 b9 b10 b11 b12 b13 b14 b15 b16 b17 hv
  have SET : wL_law_156 post L xs (wL_law_54 post L xs kc ks m) (nI n) x3 x5 x7 (nI (3 * t)) x11 (nI i) (nI j) (nI e) kc ks nc lv le fc a1 a2 a3 a4 a5 a6 a7 a8 a9 a10 a11 a12 a13 a14 a15 a16 a17 := by
    unfold wL_law_156
    refine ⟨by decide, ?_⟩
    unfold wpX_set
    refine gc_isComponent hi he (br_f (by decide) ⟨?_, nm_e (br_f (by decide) ?_)⟩)
    · have : (12 : Int32) * nI e + nI i = nI (12 * e + i) := by
        have h1 : (12 : Int32) * nI e = nI (12 * e) := pk_mul 12 e
        rw [h1, nI_add]
      rw [this]
      exact vp_in_nI (by omega) (by omega)
    · refine gc_law356 hG hi hj he h0 h1 h2 ?_
      intro lv' le' fc' b7 b8 b9 b10 b11 b12 b13 b14 b15 b16 b17
      rw [i3]
      exact hJ (nI n) x3 x5 x7 nc lv' a1 a2 a3 a4 _ a6 le' fc' b7 b8 b9 b10 b11 b12 b13 b14 b15 b16 b17 ⟨n, G, rfl, hG, h0, h1, h2⟩
  refine br_f (nI_pos (by omega)) (pk_lt 3 kk (fun _ => DEF) (fun h3 => ?_))
  refine pk_eq kk 0 (fun _ => SET) (fun k0 => pk_eq kk 1 (fun _ => SET) (fun k1 => pk_eq kk 2 (fun _ => ?_) (fun k2 => pk_eq kk 3 (fun _ => ?_) (fun k3 => trivial))))
  · obtain ⟨d, hd, ed⟩ := pk_andE x11 (m := 31) 5 (by decide)
    refine nm_r ed ?_
    have ix : (12 : Int32) * nI e + nI i = nI (12 * e + i) := by
      have h1 : (12 : Int32) * nI e = nI (12 * e) := pk_mul 12 e
      rw [h1, nI_add]
    unfold wpX_aim
    refine gc_isComponent hi he (br_f (by decide) ?_)
    rw [ix, nI_clamp (show 12 * e + i < 2 ^ 31 by omega)]
    refine ⟨vp_in_nI (by omega) (by omega), nm_e (br_f (by decide) (nm_e ?_))⟩
    have P := fun (x : Int64) (q : Nat) (h : gc_aim x a6 q) => gc_aim_put (d := d) h hi hd
    have K := fun (x : Int64) (q : Nat) (h : gc_aim x a6 q) (hne : q ≠ e) => gc_aim_keep (v := nI d - 16) h hi hne
    have NEXT : ∀ y3 y5 y7, gc_aim y3 (upd a6 (12 * e + i) (nI d - 16)) 0 → gc_aim y5 (upd a6 (12 * e + i) (nI d - 16)) 1 → gc_aim y7 (upd a6 (12 * e + i) (nI d - 16)) 2 →
        wL_law_356 post L xs (wL_law_54 post L xs kc ks m) (nI n) y3 y5 y7 (nI (3 * t)) (nI i) (nI j) (nI e) kc ks nc lv le fc a1 a2 a3 a4 a5 (upd a6 (12 * e + i) (nI d - 16)) a7 a8 a9 a10 a11 a12 a13 a14 a15 a16 a17 := by
      intro y3 y5 y7 g0 g1 g2
      refine gc_law356 hG hi hj he g0 g1 g2 ?_
      intro lv' le' fc' b7 b8 b9 b10 b11 b12 b13 b14 b15 b16 b17
      rw [i3]
      exact hJ (nI n) y3 y5 y7 nc lv' a1 a2 a3 a4 a5 _ le' fc' b7 b8 b9 b10 b11 b12 b13 b14 b15 b16 b17 ⟨n, G, rfl, hG, g0, g1, g2⟩
    refine pk_eq e 0 (fun z => nm_e ?_) (fun z0 => ?_)
    · unfold wL_law_232
      refine pk_eq e 1 (fun z1 => absurd z1 (by omega)) (fun _ => ?_)
      unfold wL_law_254
      refine pk_eq e 2 (fun z1 => absurd z1 (by omega)) (fun _ => ?_)
      refine NEXT _ _ _ ?_ (K x5 1 h1 (by omega)) (K x7 2 h2 (by omega))
      subst z
      exact P x3 0 h0
    · unfold wL_law_232
      refine pk_eq e 1 (fun z => nm_e ?_) (fun z1 => ?_)
      · unfold wL_law_254
        refine pk_eq e 2 (fun z1 => absurd z1 (by omega)) (fun _ => ?_)
        refine NEXT _ _ _ (K x3 0 h0 (by omega)) ?_ (K x7 2 h2 (by omega))
        subst z
        exact P x5 1 h1
      · unfold wL_law_254
        refine pk_eq e 2 (fun z => nm_e ?_) (fun z2 => absurd he (by omega))
        refine NEXT _ _ _ (K x3 0 h0 (by omega)) (K x5 1 h1 (by omega)) ?_
        subst z
        exact P x7 2 h2
  · refine pk_le n 0 (fun z => ?_) (fun hpos => ?_)
    · refine gc_law356 hG hi hj he h0 h1 h2 ?_
      intro lv' le' fc' b7 b8 b9 b10 b11 b12 b13 b14 b15 b16 b17
      rw [i3]
      exact hJ (nI n) x3 x5 x7 nc lv' a1 a2 a3 a4 a5 a6 le' fc' b7 b8 b9 b10 b11 b12 b13 b14 b15 b16 b17 ⟨n, G, rfl, hG, h0, h1, h2⟩
    · obtain ⟨jd, hjd, ed⟩ := pk_andE x11 (m := 255) 8 (by decide)
      have rd : (x11 &&& 255) - (x11 &&& 255) / nI n * nI n = nI (jd % n) := by rw [ed]; exact pk_rem (by omega) (by omega) (by omega)
      have r3 : nI i - nI i / 3 * 3 = nI (i % 3) := pk_rem (d := 3) (by omega) (by decide) (by decide)
      rw [rd, r3]
      refine ⟨nI_ne0 (by omega) (by omega), by decide, by decide, ?_⟩
      refine gc_stepX hG (Nat.mod_lt _ hpos) (Nat.mod_lt _ (by omega)) he ?_
      intro x b5 le' fc' b7 b8 b9 b10 b11 b12 b13 b14 b15 b16 b17
      refine gc_law356 hG hi hj he h0 h1 h2 ?_
      intro lv' le2 fc2 c7 c8 c9 c10 c11 c12 c13 c14 c15 c16 c17
      rw [i3]
      exact hJ (nI n) x3 x5 x7 nc lv' a1 a2 a3 a4 b5 a6 le2 fc2 c7 c8 c9 c10 c11 c12 c13 c14 c15 c16 c17 ⟨n, G, rfl, hG, h0, h1, h2⟩
end
end
section
section
theorem gc_law54 {L : Nat} {xs : Nat → Int32} {kc ks : Nat} (hL : L ≤ 260) {x2 : Int32} {x3 x5 x7 : Int64} {nc lv le fc : Int32} {a1 a2 a3 a4 a5 a6 a7 a8 a9 a10 a11 a12 a13 a14 a15 a16 a17 : Nat → Int32} (hI : gc_INV x2 x3 x5 x7 nc a1 a2 a3 a4 a6) :
    ∃ m, wL_law_54 (fun r => r = 1) L xs kc ks m x2 x3 x5 x7 0 nc lv le fc a1 a2 a3 a4 a5 a6 a7 a8 a9 a10 a11 a12 a13 a14 a15 a16 a17 := by
  have key := pk_loop (σ := Int32 × Int64 × Int64 × Int64 × St1) (fun m t s => wL_law_54 (fun r => r = 1) L xs kc ks m s.1 s.2.1 s.2.2.1 s.2.2.2.1 (nI (3 * t)) s.2.2.2.2.1 s.2.2.2.2.2.1 s.2.2.2.2.2.2.1 s.2.2.2.2.2.2.2.1 s.2.2.2.2.2.2.2.2.1 s.2.2.2.2.2.2.2.2.2.1 s.2.2.2.2.2.2.2.2.2.2.1 s.2.2.2.2.2.2.2.2.2.2.2.1 s.2.2.2.2.2.2.2.2.2.2.2.2.1 s.2.2.2.2.2.2.2.2.2.2.2.2.2.1 s.2.2.2.2.2.2.2.2.2.2.2.2.2.2.1 s.2.2.2.2.2.2.2.2.2.2.2.2.2.2.2.1 s.2.2.2.2.2.2.2.2.2.2.2.2.2.2.2.2.1 s.2.2.2.2.2.2.2.2.2.2.2.2.2.2.2.2.2.1 s.2.2.2.2.2.2.2.2.2.2.2.2.2.2.2.2.2.2.1 s.2.2.2.2.2.2.2.2.2.2.2.2.2.2.2.2.2.2.2.1 s.2.2.2.2.2.2.2.2.2.2.2.2.2.2.2.2.2.2.2.2.1 s.2.2.2.2.2.2.2.2.2.2.2.2.2.2.2.2.2.2.2.2.2.1 s.2.2.2.2.2.2.2.2.2.2.2.2.2.2.2.2.2.2.2.2.2.2.1 s.2.2.2.2.2.2.2.2.2.2.2.2.2.2.2.2.2.2.2.2.2.2.2.1 s.2.2.2.2.2.2.2.2.2.2.2.2.2.2.2.2.2.2.2.2.2.2.2.2)
    (fun t s => gc_INV s.1 s.2.1 s.2.2.1 s.2.2.2.1 s.2.2.2.2.1 s.2.2.2.2.2.2.2.2.1 s.2.2.2.2.2.2.2.2.2.1 s.2.2.2.2.2.2.2.2.2.2.1 s.2.2.2.2.2.2.2.2.2.2.2.1 s.2.2.2.2.2.2.2.2.2.2.2.2.2.1) (L / 3) 0 (x2, x3, x5, x7, (nc, lv, le, fc, a1, a2, a3, a4, a5, a6, a7, a8, a9, a10, a11, a12, a13, a14, a15, a16, a17)) (by omega) hI ?_ ?_
  · exact key
  · rintro m ⟨y2, y3, y5, y7, nc, lv, le, fc, a1, a2, a3, a4, a5, a6, a7, a8, a9, a10, a11, a12, a13, a14, a15, a16, a17⟩ _
    refine br_t ?_ rfl
    by_cases h : 3 ≤ L
    · have hl3 : Int32.ofNat L - 3 = nI (L - 3) := pk_sub (b := 3) h
      rw [hl3]
      exact nI_lt (by omega) (by omega)
    · have h0 : L / 3 = 0 := by omega
      rw [h0]
      exact pk_sneg (b := 3) (by decide) (by omega)
  · rintro m t ⟨y2, y3, y5, y7, nc, lv, le, fc, a1, a2, a3, a4, a5, a6, a7, a8, a9, a10, a11, a12, a13, a14, a15, a16, a17⟩ ht ⟨n, G, e2, hG, h0, h1, h2⟩ hw
    dsimp only at e2 hG h0 h1 h2 hw ⊢
    subst e2
    refine gc_lawBody hL ht hG h0 h1 h2 ?_
    intro z2 z3 z5 z7 nc' lv' b1 b2 b3 b4 b5 b6 le' fc' b7 b8 b9 b10 b11 b12 b13 b14 b15 b16 b17 hv
    exact hw (z2, z3, z5, z7, (nc', lv', le', fc', b1, b2, b3, b4, b5, b6, b7, b8, b9, b10, b11, b12, b13, b14, b15, b16, b17)) hv
/-- the law's first loop: every component of every direction is 0 -/
theorem gc_law21 {L : Nat} {xs : Nat → Int32} {kc ks : Nat} (hL : L ≤ 260) {lv le fc : Int32} {a1 a2 a3 a4 a5 a7 a8 a9 a10 a11 a12 a13 a14 a15 a16 a17 : Nat → Int32} :
    ∃ m, wL_law_21 (fun r => r = 1) L xs 0 kc ks 0 lv le fc a1 a2 a3 a4 a5 (fun _ => 0) a7 a8 a9 a10 a11 a12 a13 a14 a15 a16 a17 m 0 0 := by
  have key := pk_loop (σ := Int64) (fun m i x => wL_law_21 (fun r => r = 1) L xs 0 kc ks 0 lv le fc a1 a2 a3 a4 a5 (fun _ => 0) a7 a8 a9 a10 a11 a12 a13 a14 a15 a16 a17 m x (nI i)) (fun i x => ∀ c, c < 12 → gc_dg x c = if c < i then 16 else 0) 12 0 0 (by omega) ?_ ?_ ?_
  · exact key
  · intro c hc
    rw [if_neg (by omega)]
    have z : (0 : Int64).toBitVec.toNat = 0 := rfl
    unfold gc_dg
    rw [z, Nat.zero_div]
  · intro m x hx
    refine pk_le 12 12 (fun _ => ?_) (fun z => absurd z (by omega))
    have A : ∀ e, gc_aim x (fun _ => 0) e := by
      intro e c hc
      rw [gc_dv_dg x hc, hx c hc, if_pos hc]
      show nI 16 - 16 = 0
      decide
    exact gc_law54 hL ⟨0, (fun _ => (0, 0, 0, 0, true)), rfl, ⟨rfl, by omega, fun i hi => absurd hi (by omega)⟩, A 0, A 1, A 2⟩
  · intro m i x hi hx hw
    refine pk_le 12 i (fun z => absurd z (by omega)) (fun _ => nm_e (nm_r (nI_1 i) (hw _ (fun c hc => ?_))))
    have h0 : gc_dg x i = 0 := by rw [hx i hi, if_neg (by omega)]
    rw [gc_dg_or x hi hc h0]
    by_cases e : c = i
    · rw [if_pos e, if_pos (by omega)]
    · rw [if_neg e, hx c hc]
      by_cases e2 : c < i
      · rw [if_pos e2, if_pos (by omega)]
      · rw [if_neg e2, if_neg (by omega)]
end
theorem i_vc (xs : Nat → Int32) (L : Nat) (hL : L ≤ 260) : wpL_law (fun r => r = 1) L xs := by
  unfold wpL_law
  refine ⟨17, 5365, by decide, by decide, ?_⟩
  unfold wpX_init
  refine ⟨by decide, by decide, by decide, by decide, by decide, by decide, by decide, by decide, by decide, by decide, by decide, by decide, by decide, by decide, by decide, by decide, by decide, by decide, by decide, by decide, by decide, by decide, by decide, by decide, by decide, by decide, by decide, by decide, by decide, by decide, by decide, by decide, by decide, by decide, ?_⟩
  exact gc_law21 hL
end

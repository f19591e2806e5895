section
theorem pk_us {f : Nat → Int32} {k : Nat} {x : Int32} : upd f k x k = x := if_pos rfl
theorem pk_un {f : Nat → Int32} {k j : Nat} {x : Int32} (h : j ≠ k) : upd f k x j = f j := if_neg h
theorem pk_uLs {f : Nat → Int64} {k : Nat} {x : Int64} : vp_updL f k x k = x := if_pos rfl
theorem pk_uLn {f : Nat → Int64} {k j : Nat} {x : Int64} (h : j ≠ k) : vp_updL f k x j = f j := if_neg h
theorem pk_sub {a b : Nat} (h : b ≤ a) : nI a - nI b = nI (a - b) := by
  obtain ⟨c, rfl⟩ : ∃ c, a = c + b := ⟨a - b, by omega⟩
  rw [← nI_add, Int32.add_sub_cancel, Nat.add_sub_cancel]
theorem pk_m1 (n : Nat) : nI (n + 1) + (-1) = nI n := by
  rw [← nI_1, Int32.add_assoc, show (1 : Int32) + (-1) = 0 from rfl, Int32.add_zero]
theorem pk_mul (a b : Nat) : nI a * nI b = nI (a * b) := (Int32.ofNat_mul a b).symm
theorem pk_ix (x : Int32) {n : Nat} (hn : n < 2 ^ 31) : x < 0 ∨ nI n ≤ x ∨ ∃ j : Nat, j < n ∧ x = nI j := by
  by_cases h : x < 0
  · exact Or.inl h
  · obtain ⟨j, hj, rfl⟩ := nI_of h
    by_cases h2 : j < n
    · exact Or.inr (Or.inr ⟨j, h2, rfl⟩)
    · exact Or.inr (Or.inl (nI_le (by omega) hj))
theorem pk_le {x y : Int32} {A B : Prop} (a b : Nat) (f : a ≤ b → A) (g : b < a → B) (hx : x = nI a := by rfl) (hy : y = nI b := by rfl) (ha : a < 2 ^ 31 := by omega) (hb : b < 2 ^ 31 := by omega) : (x ≤ y → A) ∧ (¬ x ≤ y → B) := by
  subst hx hy
  rw [nI_leI ha hb]
  exact ⟨f, fun z => g (by omega)⟩
theorem pk_lt {x y : Int32} {A B : Prop} (a b : Nat) (f : a < b → A) (g : b ≤ a → B) (hx : x = nI a := by rfl) (hy : y = nI b := by rfl) (ha : a < 2 ^ 31 := by omega) (hb : b < 2 ^ 31 := by omega) : (x < y → A) ∧ (¬ x < y → B) := by
  subst hx hy
  rw [nI_ltI ha hb]
  exact ⟨f, fun z => g (by omega)⟩
theorem pk_eq {x y : Int32} {A B : Prop} (a b : Nat) (f : a = b → A) (g : a ≠ b → B) (hx : x = nI a := by rfl) (hy : y = nI b := by rfl) (ha : a < 2 ^ 31 := by omega) (hb : b < 2 ^ 31 := by omega) : (x = y → A) ∧ (¬ x = y → B) := by
  subst hx hy
  rw [nI_eq ha hb]
  exact ⟨f, g⟩
theorem pk_in {x : Int32} (n N : Nat) (h : n < N) (hx : x = nI n := by rfl) (hN : N < 2 ^ 31 := by omega) : vp_in x N := by
  subst hx
  exact vp_in_nI h hN
theorem pk_cl {x : Int32} (n : Nat) (hx : x = nI n := by rfl) (h : n < 2 ^ 31 := by omega) : x.toNatClampNeg = n := by
  subst hx
  exact nI_clamp h
theorem pk_shr (a s : Int32) (k : Nat) (hs : (s.toBitVec.smod 32).toNat = k) : (a >>> s).toInt = a.toInt >>> k := by
  show (a.toBitVec.sshiftRight (s.toBitVec.smod 32).toNat).toInt = _
  rw [hs, BitVec.toInt_sshiftRight]
  rfl
theorem pk_shrN {n : Nat} (h : n < 2 ^ 31) (s : Int32) (k : Nat) (hs : (s.toBitVec.smod 32).toNat = k) : nI n >>> s = nI (n / 2 ^ k) := by
  apply Int32.toInt_inj.mp
  have h2 : n / 2 ^ k ≤ n := Nat.div_le_self _ _
  rw [pk_shr _ _ k hs, nI_toInt h, nI_toInt (by omega), Int.shiftRight_eq_div_pow]
  rfl
end
section
abbrev vw_T : Type := Int32 × Int32 × Int
def vw_k (a b : Int32) : Int := a.toInt * 4294967296 + b.toInt
def vw_q (x : vw_T) : Int := vw_k x.1 x.2.1
theorem vw_k_lt {a b c d : Int32} : vw_k a b < vw_k c d ↔ a < c ∨ (a = c ∧ b < d) := by
  have h1 := a.le_toInt
  have h2 := a.toInt_lt
  have h3 := b.le_toInt
  have h4 := b.toInt_lt
  have h5 := c.le_toInt
  have h6 := c.toInt_lt
  have h7 := d.le_toInt
  have h8 := d.toInt_lt
  rw [Int32.lt_iff_toInt_lt, Int32.lt_iff_toInt_lt, ← Int32.toInt_inj]
  unfold vw_k
  omega
theorem vw_k_eq {a b c d : Int32} : vw_k a b = vw_k c d ↔ a = c ∧ b = d := by
  have h3 := b.le_toInt
  have h4 := b.toInt_lt
  have h7 := d.le_toInt
  have h8 := d.toInt_lt
  rw [← Int32.toInt_inj, ← Int32.toInt_inj]
  unfold vw_k
  omega
theorem vw_k_min {a x y : Int32} : vw_k a (-2147483648) ≤ vw_k x y ↔ a ≤ x := by
  have h3 := y.le_toInt
  have h4 := y.toInt_lt
  rw [Int32.le_iff_toInt_le]
  unfold vw_k
  rw [show (-2147483648 : Int32).toInt = -2147483648 from by decide]
  omega
theorem vw_k_minlt {a x y : Int32} : vw_k x y < vw_k a (-2147483648) ↔ x < a := by
  have h3 := y.le_toInt
  have h4 := y.toInt_lt
  rw [Int32.lt_iff_toInt_lt]
  unfold vw_k
  rw [show (-2147483648 : Int32).toInt = -2147483648 from by decide]
  omega
theorem vw_k_le1 {a b c d : Int32} (h : vw_k a b < vw_k c d) : a ≤ c := by
  rcases vw_k_lt.mp h with h | ⟨h, _⟩
  · exact Int32.le_of_lt h
  · rw [h]; exact Int32.le_refl _
def vw_S : List vw_T → (vw_T → Int) → Int
  | [], _ => 0
  | x :: l, g => g x + vw_S l g
theorem vw_S_app (l l' : List vw_T) (g : vw_T → Int) : vw_S (l ++ l') g = vw_S l g + vw_S l' g := by
  induction l with
  | nil => exact (Int.zero_add _).symm
  | cons x l ih => show g x + vw_S (l ++ l') g = g x + vw_S l g + vw_S l' g; rw [ih]; omega
theorem vw_S_congr {l : List vw_T} {g h : vw_T → Int} (e : ∀ x, x ∈ l → g x = h x) : vw_S l g = vw_S l h := by
  induction l with
  | nil => rfl
  | cons x l ih =>
    show g x + vw_S l g = h x + vw_S l h
    rw [e x List.mem_cons_self, ih (fun y hy => e y (List.mem_cons_of_mem _ hy))]
theorem vw_S_add (l : List vw_T) (g h : vw_T → Int) : vw_S l (fun x => g x + h x) = vw_S l g + vw_S l h := by
  induction l with
  | nil => rfl
  | cons x l ih =>
    show g x + h x + vw_S l (fun x => g x + h x) = (g x + vw_S l g) + (h x + vw_S l h)
    rw [ih]; omega
theorem vw_S_mul (l : List vw_T) (c : Int) (g : vw_T → Int) : vw_S l (fun x => c * g x) = c * vw_S l g := by
  induction l with
  | nil => exact (Int.mul_zero c).symm
  | cons x l ih =>
    show c * g x + vw_S l (fun x => c * g x) = c * (g x + vw_S l g)
    rw [ih, Int.mul_add]
theorem vw_S_zero {l : List vw_T} {g : vw_T → Int} (e : ∀ x, x ∈ l → g x = 0) : vw_S l g = 0 := by
  induction l with
  | nil => rfl
  | cons x l ih =>
    show g x + vw_S l g = 0
    rw [e x List.mem_cons_self, ih (fun y hy => e y (List.mem_cons_of_mem _ hy))]; rfl
theorem vw_S_nn {l : List vw_T} {g : vw_T → Int} (e : ∀ x, x ∈ l → 0 ≤ g x) : 0 ≤ vw_S l g := by
  induction l with
  | nil => exact Int.le_refl 0
  | cons x l ih =>
    show 0 ≤ g x + vw_S l g
    have h1 := e x List.mem_cons_self
    have h2 := ih (fun y hy => e y (List.mem_cons_of_mem _ hy))
    omega
theorem vw_S_le {l : List vw_T} {g : vw_T → Int} {C : Int} (e : ∀ x, x ∈ l → g x ≤ C) : vw_S l g ≤ l.length * C := by
  induction l with
  | nil => simp [vw_S]
  | cons x l ih =>
    show g x + vw_S l g ≤ _
    have h1 := e x List.mem_cons_self
    have h2 := ih (fun y hy => e y (List.mem_cons_of_mem _ hy))
    rw [List.length_cons, Int.natCast_add, Int.add_mul]
    simp only [Int.natCast_one, Int.one_mul]
    omega
def vw_W (l : List vw_T) (f : Int32 → Int32 → Int) : Int := vw_S l (fun x => f x.1 x.2.1 * x.2.2)
def vw_d (a b x y : Int32) : Int := if x = a ∧ y = b then 1 else 0
def vw_v (l : List vw_T) (a b : Int32) : Int := vw_W l (vw_d a b)
theorem vw_W_cons (x : vw_T) (l : List vw_T) (f : Int32 → Int32 → Int) : vw_W (x :: l) f = f x.1 x.2.1 * x.2.2 + vw_W l f := rfl
theorem vw_W_nil (f : Int32 → Int32 → Int) : vw_W [] f = 0 := rfl
theorem vw_W_app (l l' : List vw_T) (f : Int32 → Int32 → Int) : vw_W (l ++ l') f = vw_W l f + vw_W l' f := vw_S_app _ _ _
theorem vw_v_cons (x : vw_T) (l : List vw_T) (a b : Int32) : vw_v (x :: l) a b = vw_d a b x.1 x.2.1 * x.2.2 + vw_v l a b := rfl
theorem vw_v_nil (a b : Int32) : vw_v [] a b = 0 := rfl
theorem vw_v_app (l l' : List vw_T) (a b : Int32) : vw_v (l ++ l') a b = vw_v l a b + vw_v l' a b := vw_S_app _ _ _
theorem vw_d_1 (a b : Int32) : vw_d a b a b = 1 := if_pos ⟨rfl, rfl⟩
theorem vw_d_0 {a b x y : Int32} (h : ¬ (x = a ∧ y = b)) : vw_d a b x y = 0 := if_neg h
theorem vw_d_k {a b x y : Int32} (h : vw_k x y ≠ vw_k a b) : vw_d a b x y = 0 := if_neg (fun z => h (vw_k_eq.mpr z))
theorem vw_d_s (a b x y : Int32) : vw_d a b x y = vw_d x y a b := by
  by_cases h : x = a ∧ y = b
  · rw [h.1, h.2]
  · rw [vw_d_0 h, vw_d_0 (fun z => h ⟨z.1.symm, z.2.symm⟩)]
theorem vw_v_none {l : List vw_T} {a b : Int32} (h : ∀ x, x ∈ l → vw_q x ≠ vw_k a b) : vw_v l a b = 0 :=
  vw_S_zero (fun x hx => by rw [vw_d_k (h x hx), Int.zero_mul])
def vw_cut (l : List vw_T) (a b : Int32) : List vw_T := l.filter (fun y => !(decide (y.1 = a ∧ y.2.1 = b)))
theorem vw_W_cut (l : List vw_T) (a b : Int32) (f : Int32 → Int32 → Int) : vw_W l f = f a b * vw_v l a b + vw_W (vw_cut l a b) f := by
  induction l with
  | nil => show (0 : Int) = f a b * 0 + 0; rw [Int.mul_zero]; rfl
  | cons x l ih =>
    rw [vw_W_cons, vw_v_cons, ih]
    unfold vw_cut
    by_cases h : x.1 = a ∧ x.2.1 = b
    · have e : (x :: l).filter (fun y => !(decide (y.1 = a ∧ y.2.1 = b))) = l.filter (fun y => !(decide (y.1 = a ∧ y.2.1 = b))) := by
        rw [List.filter_cons_of_neg]; simp [h]
      rw [e, h.1, h.2, vw_d_1, Int.one_mul, Int.mul_add]; omega
    · have e : (x :: l).filter (fun y => !(decide (y.1 = a ∧ y.2.1 = b))) = x :: l.filter (fun y => !(decide (y.1 = a ∧ y.2.1 = b))) := by
        rw [List.filter_cons_of_pos]; simp only [decide_eq_false h, Bool.not_false]
      rw [e, vw_W_cons, vw_d_0 h, Int.zero_mul, Int.zero_add]; omega
theorem vw_zero : ∀ (n : Nat) (l : List vw_T), l.length ≤ n → (∀ a b, vw_v l a b = 0) → ∀ f, vw_W l f = 0 := by
  intro n
  induction n with
  | zero =>
    intro l hl _ f
    cases l with
    | nil => rfl
    | cons x l => exact absurd hl (by simp)
  | succ n ih =>
    intro l hl h f
    cases l with
    | nil => rfl
    | cons x l =>
      have hc : (vw_cut (x :: l) x.1 x.2.1).length ≤ n := by
        have e : vw_cut (x :: l) x.1 x.2.1 = vw_cut l x.1 x.2.1 := by
          unfold vw_cut; rw [List.filter_cons_of_neg]; simp
        rw [e]
        have h2 : (vw_cut l x.1 x.2.1).length ≤ l.length := List.length_filter_le _ _
        have h3 : l.length + 1 ≤ n + 1 := hl
        omega
      have hz : ∀ a b, vw_v (vw_cut (x :: l) x.1 x.2.1) a b = 0 := by
        intro a b
        have e := vw_W_cut (x :: l) x.1 x.2.1 (vw_d a b)
        rw [h x.1 x.2.1, Int.mul_zero, Int.zero_add] at e
        exact e.symm.trans (h a b)
      rw [vw_W_cut (x :: l) x.1 x.2.1 f, h x.1 x.2.1, Int.mul_zero, Int.zero_add]
      exact ih _ hc hz f
def vw_n (l : List vw_T) : List vw_T := l.map (fun x => (x.1, x.2.1, -x.2.2))
theorem vw_W_n (l : List vw_T) (f : Int32 → Int32 → Int) : vw_W (vw_n l) f = - vw_W l f := by
  induction l with
  | nil => rfl
  | cons x l ih =>
    show f x.1 x.2.1 * (-x.2.2) + vw_W (vw_n l) f = - (f x.1 x.2.1 * x.2.2 + vw_W l f)
    rw [ih, Int.mul_neg]; omega
theorem vw_W_add {l l1 l2 : List vw_T} (h : ∀ a b, vw_v l a b = vw_v l1 a b + vw_v l2 a b) (f : Int32 → Int32 → Int) : vw_W l f = vw_W l1 f + vw_W l2 f := by
  have z := vw_zero _ (l ++ (vw_n l1 ++ vw_n l2)) (Nat.le_refl _) (fun a b => by
    have e := h a b
    unfold vw_v at e ⊢
    rw [vw_W_app, vw_W_app, vw_W_n, vw_W_n]; omega) f
  rw [vw_W_app, vw_W_app, vw_W_n, vw_W_n] at z
  omega
theorem vw_W_eq {l l' : List vw_T} (h : ∀ a b, vw_v l a b = vw_v l' a b) (f : Int32 → Int32 → Int) : vw_W l f = vw_W l' f := by
  have e := vw_W_add (l := l) (l1 := l') (l2 := []) (fun a b => by rw [h, vw_v_nil]; omega) f
  rw [e, vw_W_nil]; omega
theorem vw_W_f {l : List vw_T} {f g : Int32 → Int32 → Int} (h : ∀ x y, f x y = g x y) : vw_W l f = vw_W l g :=
  vw_S_congr (fun x _ => by rw [h])
theorem vw_W_fadd {l : List vw_T} {f g h : Int32 → Int32 → Int} (e : ∀ x y, f x y = g x y + h x y) : vw_W l f = vw_W l g + vw_W l h := by
  unfold vw_W
  rw [← vw_S_add]
  exact vw_S_congr (fun x _ => by rw [e, Int.add_mul])
def vw_so (l : List vw_T) : Prop := l.Pairwise (fun x y => vw_q x < vw_q y)
def vw_nd (l : List vw_T) : Prop := l.Pairwise (fun x y => vw_q x ≠ vw_q y)
theorem vw_so_nd {l : List vw_T} (h : vw_so l) : vw_nd l := List.Pairwise.imp (fun z => Int.ne_of_lt z) h
theorem vw_v_in {l : List vw_T} (nd : vw_nd l) {x : vw_T} (hx : x ∈ l) : vw_v l x.1 x.2.1 = x.2.2 := by
  induction l with
  | nil => exact absurd hx List.not_mem_nil
  | cons y l ih =>
    rw [vw_v_cons]
    have nd' := List.pairwise_cons.mp nd
    rcases List.mem_cons.mp hx with rfl | hx
    · rw [vw_d_1, Int.one_mul, vw_v_none (fun z hz e => nd'.1 z hz e.symm)]; omega
    · rw [vw_d_k (nd'.1 x hx), Int.zero_mul, Int.zero_add]; exact ih nd'.2 hx
theorem vw_v_ne {l : List vw_T} {a b : Int32} (h : vw_v l a b ≠ 0) : ∃ x, x ∈ l ∧ x.1 = a ∧ x.2.1 = b := by
  apply Classical.byContradiction
  intro hn
  exact h (vw_v_none (fun x hx e => hn ⟨x, hx, vw_k_eq.mp e⟩))
def vw_ps (l : List vw_T) : Prop := ∀ x, x ∈ l → 0 < x.2.2
theorem vw_d_nn (a b x y : Int32) : 0 ≤ vw_d a b x y ∧ vw_d a b x y ≤ 1 := by
  unfold vw_d; split <;> omega
theorem vw_W_nn {l : List vw_T} (hp : vw_ps l) {f : Int32 → Int32 → Int} (hf : ∀ x y, 0 ≤ f x y) : 0 ≤ vw_W l f :=
  vw_S_nn (fun x hx => Int.mul_nonneg (hf _ _) (Int.le_of_lt (hp x hx)))
theorem vw_v_nn {l : List vw_T} (hp : vw_ps l) (a b : Int32) : 0 ≤ vw_v l a b := vw_W_nn hp (fun x y => (vw_d_nn a b x y).1)
theorem vw_v_pos {l : List vw_T} (hp : vw_ps l) {x : vw_T} (hx : x ∈ l) : 0 < vw_v l x.1 x.2.1 := by
  induction l with
  | nil => exact absurd hx List.not_mem_nil
  | cons y l ih =>
    have hp' : vw_ps l := fun z hz => hp z (List.mem_cons_of_mem _ hz)
    rw [vw_v_cons]
    rcases List.mem_cons.mp hx with rfl | hx
    · have h1 := hp x List.mem_cons_self
      have h2 := vw_v_nn hp' x.1 x.2.1
      rw [vw_d_1, Int.one_mul]; omega
    · have h1 := ih hp' hx
      have h2 := Int.mul_nonneg (vw_d_nn x.1 x.2.1 y.1 y.2.1).1 (Int.le_of_lt (hp y List.mem_cons_self))
      omega
theorem vw_W_bd {l : List vw_T} {M : Int} (hM : ∀ x, x ∈ l → 0 < x.2.2 ∧ x.2.2 ≤ M) {C : Int} {f : Int32 → Int32 → Int} (hf : ∀ x y, 0 ≤ f x y ∧ f x y ≤ C) : vw_W l f ≤ l.length * (C * M) :=
  vw_S_le (fun x hx => by
    have h1 := hf x.1 x.2.1
    have h2 := hM x hx
    exact Int.le_trans (Int.mul_le_mul_of_nonneg_right h1.2 (Int.le_of_lt h2.1)) (Int.mul_le_mul_of_nonneg_left h2.2 (Int.le_trans h1.1 h1.2)))
theorem vw_v_le {l : List vw_T} (nd : vw_nd l) {M : Int} (h0 : 0 ≤ M) (hM : ∀ x, x ∈ l → x.2.2 ≤ M) (a b : Int32) : vw_v l a b ≤ M := by
  by_cases h : vw_v l a b = 0
  · omega
  · obtain ⟨x, hx, rfl, rfl⟩ := vw_v_ne h
    rw [vw_v_in nd hx]; exact hM x hx
def vw_fits (v : Int32 → Int32 → Int) (R M : Nat) : Prop := (∀ a b, v a b ≤ M) ∧ ∀ P : List (Int32 × Int32), P.Nodup → (∀ x, x ∈ P → v x.1 x.2 ≠ 0) → P.length ≤ R
theorem vw_rows_nd {l : List vw_T} (nd : vw_nd l) : (l.map (fun x => (x.1, x.2.1))).Nodup := by
  unfold List.Nodup
  rw [List.pairwise_map]
  refine List.Pairwise.imp ?_ nd
  intro x y h e
  exact h (vw_k_eq.mpr (Prod.mk.inj e))
theorem vw_cnt {l : List vw_T} {v : Int32 → Int32 → Int} (h : ∀ a b, v a b ≠ 0 → vw_v l a b ≠ 0) {P : List (Int32 × Int32)} (hP : P.Nodup) (hv : ∀ x, x ∈ P → v x.1 x.2 ≠ 0) : P.length ≤ l.length := by
  have e := List.Nodup.length_le_of_subset (l₂ := l.map (fun x => (x.1, x.2.1))) hP (by
    intro x hx
    obtain ⟨y, hy, h1, h2⟩ := vw_v_ne (h _ _ (hv x hx))
    rw [List.mem_map]
    exact ⟨y, hy, by rw [h1, h2]⟩)
  rw [List.length_map] at e
  exact e
theorem vw_fits_of {l : List vw_T} {v : Int32 → Int32 → Int} {R M : Nat} (h : ∀ a b, vw_v l a b = v a b) (hm : ∀ a b, v a b ≤ M) (hl : l.length ≤ R) : vw_fits v R M :=
  ⟨hm, fun P hP hv => Nat.le_trans (vw_cnt (l := l) (v := v) (fun a b z => by rw [h]; exact z) hP hv) hl⟩
theorem vw_fits_not {l : List vw_T} {v : Int32 → Int32 → Int} {R M : Nat} (nd : vw_nd l) (hv : ∀ x, x ∈ l → v x.1 x.2.1 ≠ 0) (hl : R < l.length) : ¬ vw_fits v R M := by
  intro hf
  have e := hf.2 (l.map (fun x => (x.1, x.2.1))) (vw_rows_nd nd) (by
    intro x hx
    obtain ⟨y, hy, rfl⟩ := List.mem_map.mp hx
    exact hv y hy)
  rw [List.length_map] at e
  omega
theorem vw_ix {l : List vw_T} {i : Nat} {x : vw_T} (h : l[i]? = some x) : i < l.length := (List.getElem?_eq_some_iff.mp h).1
theorem vw_ex {l : List vw_T} {i : Nat} (h : i < l.length) : ∃ x, l[i]? = some x := ⟨l[i], List.getElem?_eq_getElem h⟩
theorem vw_mid (l1 : List vw_T) (x : vw_T) (l2 : List vw_T) : (l1 ++ x :: l2)[l1.length]? = some x := by
  rw [List.getElem?_append_right (Nat.le_refl _), Nat.sub_self]; rfl
theorem vw_so_ix {l : List vw_T} (so : vw_so l) {i j : Nat} {x y : vw_T} (hx : l[i]? = some x) (hy : l[j]? = some y) (h : i < j) : vw_q x < vw_q y := by
  obtain ⟨hi, rfl⟩ := List.getElem?_eq_some_iff.mp hx
  obtain ⟨hj, rfl⟩ := List.getElem?_eq_some_iff.mp hy
  exact List.pairwise_iff_getElem.mp so i j hi hj h
theorem vw_take {l : List vw_T} {n : Nat} {x : vw_T} (h : x ∈ l.take n) : ∃ i, i < n ∧ l[i]? = some x := by
  obtain ⟨i, hi⟩ := List.mem_iff_getElem?.mp h
  rw [List.getElem?_take] at hi
  by_cases c : i < n
  · rw [if_pos c] at hi; exact ⟨i, c, hi⟩
  · rw [if_neg c] at hi; exact absurd hi (by simp)
theorem vw_drop {l : List vw_T} {n : Nat} {x : vw_T} (h : x ∈ l.drop n) : ∃ i, n ≤ i ∧ l[i]? = some x := by
  obtain ⟨i, hi⟩ := List.mem_iff_getElem?.mp h
  rw [List.getElem?_drop] at hi
  exact ⟨n + i, by omega, hi⟩
theorem vw_grp {L1 G S : List vw_T} {y : Int32} (so : vw_so (L1 ++ (G ++ S))) (h1 : ∀ x, x ∈ L1 → vw_q x < vw_k y (-2147483648)) (h2 : ∀ x, x ∈ G ++ S → vw_k y (-2147483648) ≤ vw_q x) (hs : ∀ x, S.head? = some x → x.1 ≠ y) : (∀ x, x ∈ L1 → x.1 ≠ y) ∧ (∀ x, x ∈ S → x.1 ≠ y) := by
  refine ⟨fun x hx e => ?_, fun x hx => ?_⟩
  · have := vw_k_minlt.mp (h1 x hx)
    rw [e] at this
    exact absurd this Int32.lt_irrefl
  · cases S with
    | nil => exact absurd hx List.not_mem_nil
    | cons s S =>
      have h3 := hs s rfl
      rcases List.mem_cons.mp hx with rfl | hx
      · exact h3
      · have h4 := (List.pairwise_append.mp (List.pairwise_append.mp so).2.1).2.1
        have h5 := (List.pairwise_cons.mp h4).1 x hx
        have h6 := vw_k_min.mp (h2 s (List.mem_append_right _ List.mem_cons_self))
        have h7 := vw_k_le1 h5
        intro e
        rw [e] at h7
        exact h3 (Int32.le_antisymm h7 h6)
theorem vw_grp_S {L1 G S : List vw_T} {y : Int32} {g : vw_T → Int} (h1 : ∀ x, x ∈ L1 → x.1 ≠ y) (h2 : ∀ x, x ∈ S → x.1 ≠ y) (hg : ∀ x : vw_T, x.1 ≠ y → g x = 0) : vw_S (L1 ++ (G ++ S)) g = vw_S G g := by
  rw [vw_S_app, vw_S_app, vw_S_zero (fun x hx => hg x (h1 x hx)), vw_S_zero (l := S) (fun x hx => hg x (h2 x hx))]; omega
end
section
noncomputable def vw_b (P : Prop) : Int := @ite Int P (Classical.propDecidable P) 1 0
theorem vw_b_t {P : Prop} (h : P) : vw_b P = 1 := by unfold vw_b; rw [if_pos h]
theorem vw_b_f {P : Prop} (h : ¬ P) : vw_b P = 0 := by unfold vw_b; rw [if_neg h]
theorem vw_b_01 (P : Prop) : 0 ≤ vw_b P ∧ vw_b P ≤ 1 := by
  rcases Classical.em P with h | h
  · rw [vw_b_t h]; omega
  · rw [vw_b_f h]; omega
theorem vw_b_iff {P Q : Prop} (h : P ↔ Q) : vw_b P = vw_b Q := congrArg vw_b (propext h)
def vw_sat (t k a b : Int32) : Bool :=
  if t = 0 then decide (a = k) else if t = 1 then decide (a < k) else if t = 2 then decide (k < a) else if t = 3 then decide (b = k) else if t = 4 then decide (b < k) else if t = 5 then decide (k < b) else if t = 6 then decide (a = b) else decide (a < b)
def vw_col (t a b : Int32) : Int32 := if t = 0 then a else if t = 1 then b else if t = 2 then 0 else a + b
def vw_gs (L : List vw_T) (a : Int32) (f : Int32 → Int) : Int := vw_W L (fun p q => if p = a then f q else 0)
def vw_G (k : Int32) (L : List vw_T) (a x : Int32) : Prop :=
  (∃ z, z ∈ L ∧ z.1 = a) ∧ (k = 6 → x = Int32.ofInt (vw_gs L a (fun _ => 1))) ∧ (k = 7 → x = Int32.ofInt (vw_gs L a (fun q => q.toInt))) ∧ (k = 8 → (∃ z, z ∈ L ∧ z.1 = a ∧ z.2.1 = x) ∧ ∀ z, z ∈ L → z.1 = a → x ≤ z.2.1) ∧ (k = 9 → (∃ z, z ∈ L ∧ z.1 = a ∧ z.2.1 = x) ∧ ∀ z, z ∈ L → z.1 = a → z.2.1 ≤ x)
theorem vw_G_u {k : Int32} (hk : k = 6 ∨ k = 7 ∨ k = 8 ∨ k = 9) {L : List vw_T} {a x y : Int32} (h : vw_G k L a x) (h' : vw_G k L a y) : x = y := by
  obtain ⟨_, h6, h7, h8, h9⟩ := h
  obtain ⟨_, g6, g7, g8, g9⟩ := h'
  rcases hk with e | e | e | e
  · rw [h6 e, g6 e]
  · rw [h7 e, g7 e]
  · obtain ⟨⟨z, hz, ha, hx⟩, hl⟩ := h8 e
    obtain ⟨⟨z', hz', ha', hx'⟩, hl'⟩ := g8 e
    have i1 := hl z' hz' ha'
    have i2 := hl' z hz ha
    rw [hx'] at i1
    rw [hx] at i2
    exact Int32.le_antisymm i1 i2
  · obtain ⟨⟨z, hz, ha, hx⟩, hl⟩ := h9 e
    obtain ⟨⟨z', hz', ha', hx'⟩, hl'⟩ := g9 e
    have i1 := hl z' hz' ha'
    have i2 := hl' z hz ha
    rw [hx'] at i1
    rw [hx] at i2
    exact Int32.le_antisymm i2 i1
theorem vw_mem_tr {L L' : List vw_T} (hp : vw_ps L) {a : Int32} (h : ∀ b, vw_v L a b = vw_v L' a b) {z : vw_T} (hz : z ∈ L) (ha : z.1 = a) : ∃ z', z' ∈ L' ∧ z'.1 = a ∧ z'.2.1 = z.2.1 := by
  have h1 := vw_v_pos hp hz
  rw [ha, h] at h1
  exact vw_v_ne (Int.ne_of_gt h1)
theorem vw_G_tr {k : Int32} {L L' : List vw_T} (hp : vw_ps L) (hp' : vw_ps L') {a x : Int32} (h1 : ∀ b, vw_v L a b = vw_v L' a b) (h2 : ∀ f, vw_gs L a f = vw_gs L' a f) (h : vw_G k L a x) : vw_G k L' a x := by
  obtain ⟨⟨z, hz, ha⟩, h6, h7, h8, h9⟩ := h
  refine ⟨?_, ?_, ?_, ?_, ?_⟩
  · obtain ⟨z', hz', e, _⟩ := vw_mem_tr hp h1 hz ha
    exact ⟨z', hz', e⟩
  · intro e; rw [← h2]; exact h6 e
  · intro e; rw [← h2]; exact h7 e
  · intro e
    obtain ⟨⟨w, hw, hwa, hwx⟩, hl⟩ := h8 e
    refine ⟨?_, ?_⟩
    · obtain ⟨w', g1, g2, g3⟩ := vw_mem_tr hp h1 hw hwa
      exact ⟨w', g1, g2, g3.trans hwx⟩
    · intro w' g1 g2
      obtain ⟨w2, g3, g4, g5⟩ := vw_mem_tr hp' (fun b => (h1 b).symm) g1 g2
      rw [← g5]; exact hl w2 g3 g4
  · intro e
    obtain ⟨⟨w, hw, hwa, hwx⟩, hl⟩ := h9 e
    refine ⟨?_, ?_⟩
    · obtain ⟨w', g1, g2, g3⟩ := vw_mem_tr hp h1 hw hwa
      exact ⟨w', g1, g2, g3.trans hwx⟩
    · intro w' g1 g2
      obtain ⟨w2, g3, g4, g5⟩ := vw_mem_tr hp' (fun b => (h1 b).symm) g1 g2
      rw [← g5]; exact hl w2 g3 g4
theorem vw_G_iff {k : Int32} {L L' : List vw_T} (hp : vw_ps L) (hp' : vw_ps L') {a x : Int32} (h1 : ∀ b, vw_v L a b = vw_v L' a b) (h2 : ∀ f, vw_gs L a f = vw_gs L' a f) : vw_G k L a x ↔ vw_G k L' a x :=
  ⟨vw_G_tr hp hp' h1 h2, vw_G_tr hp' hp (fun b => (h1 b).symm) (fun f => (h2 f).symm)⟩
noncomputable def vw_F (k t f : Int32) (L R : List vw_T) (a b : Int32) : Int :=
  if k = 1 then vw_W L (fun x y => if vw_sat t f x y = true then vw_d a b x y else 0)
  else if k = 2 then vw_W L (fun x y => vw_d a b (vw_col t x y) (vw_col f x y))
  else if k = 3 then vw_W L (fun x y => if x = a then vw_v R y b else 0)
  else if k = 4 then vw_v L a b + vw_v R a b
  else if k = 5 then (if vw_v R a b < vw_v L a b then vw_v L a b - vw_v R a b else 0)
  else vw_b (vw_G k L a b)
theorem vw_F1 {t f : Int32} {L R : List vw_T} {a b : Int32} : vw_F 1 t f L R a b = vw_W L (fun x y => if vw_sat t f x y = true then vw_d a b x y else 0) := rfl
theorem vw_F2 {t f : Int32} {L R : List vw_T} {a b : Int32} : vw_F 2 t f L R a b = vw_W L (fun x y => vw_d a b (vw_col t x y) (vw_col f x y)) := rfl
theorem vw_F3 {t f : Int32} {L R : List vw_T} {a b : Int32} : vw_F 3 t f L R a b = vw_W L (fun x y => if x = a then vw_v R y b else 0) := rfl
theorem vw_F4 {t f : Int32} {L R : List vw_T} {a b : Int32} : vw_F 4 t f L R a b = vw_v L a b + vw_v R a b := rfl
theorem vw_F5 {t f : Int32} {L R : List vw_T} {a b : Int32} : vw_F 5 t f L R a b = (if vw_v R a b < vw_v L a b then vw_v L a b - vw_v R a b else 0) := rfl
theorem vw_F6 {k t f : Int32} (hk : k = 6 ∨ k = 7 ∨ k = 8 ∨ k = 9) {L R : List vw_T} {a b : Int32} : vw_F k t f L R a b = vw_b (vw_G k L a b) := by
  rcases hk with rfl | rfl | rfl | rfl <;> rfl
theorem vw_F_nil (k t f a b : Int32) : vw_F k t f [] [] a b = 0 := by
  unfold vw_F
  split
  · rfl
  · split
    · rfl
    · split
      · rfl
      · split
        · rfl
        · split
          · rfl
          · exact vw_b_f (fun h => by obtain ⟨⟨z, hz, _⟩, _⟩ := h; exact absurd hz List.not_mem_nil)
theorem vw_F_eq {k t f : Int32} {L L' R R' : List vw_T} (hp : vw_ps L) (hp' : vw_ps L') (hL : ∀ a b, vw_v L a b = vw_v L' a b) (hR : ∀ a b, vw_v R a b = vw_v R' a b) (a b : Int32) : vw_F k t f L R a b = vw_F k t f L' R' a b := by
  unfold vw_F
  rw [hL a b, hR a b, vw_W_eq hL, vw_W_eq hL, vw_W_eq hL]
  rw [vw_W_f (l := L') (f := fun x y => if x = a then vw_v R y b else 0) (g := fun x y => if x = a then vw_v R' y b else 0) (fun x y => by rw [hR])]
  rw [vw_b_iff (vw_G_iff (k := k) (x := b) hp hp' (hL a) (fun f => vw_W_eq hL _))]
def vw_bg (L : List vw_T) (M : Nat) : Prop := vw_nd L ∧ L.length ≤ 12 ∧ ∀ x, x ∈ L → 0 < x.2.2 ∧ x.2.2 ≤ (M : Int)
theorem vw_bg_ps {L : List vw_T} {M : Nat} (h : vw_bg L M) : vw_ps L := fun x hx => (h.2.2 x hx).1
theorem vw_bg_v {L : List vw_T} {M : Nat} (h : vw_bg L M) (a b : Int32) : 0 ≤ vw_v L a b ∧ vw_v L a b ≤ M :=
  ⟨vw_v_nn (vw_bg_ps h) a b, vw_v_le h.1 (Int.natCast_nonneg M) (fun x hx => (h.2.2 x hx).2) a b⟩
theorem vw_bg_nil (M : Nat) : vw_bg [] M := ⟨List.Pairwise.nil, by simp, fun x hx => absurd hx List.not_mem_nil⟩
theorem vw_bd1 {L : List vw_T} {M : Nat} (hM : M ≤ 9999) (h : vw_bg L M) {f : Int32 → Int32 → Int} (hf : ∀ x y, 0 ≤ f x y ∧ f x y ≤ 9999) : 0 ≤ vw_W L f ∧ vw_W L f < 2147483648 := by
  refine ⟨vw_W_nn (vw_bg_ps h) (fun x y => (hf x y).1), ?_⟩
  have h1 := vw_W_bd h.2.2 hf
  have h2 : (L.length : Int) * (9999 * (M : Int)) ≤ 12 * (9999 * 9999) := by
    apply Int.mul_le_mul
    · have := h.2.1; omega
    · omega
    · omega
    · omega
  omega
theorem vw_F_bd {k t f : Int32} {L R : List vw_T} {M : Nat} (hM : M ≤ 9999) (hL : vw_bg L M) (hR : vw_bg R M) (a b : Int32) : 0 ≤ vw_F k t f L R a b ∧ vw_F k t f L R a b < 2147483648 := by
  unfold vw_F
  split
  · exact vw_bd1 hM hL (fun x y => by have := vw_d_nn a b x y; split <;> omega)
  · split
    · exact vw_bd1 hM hL (fun x y => by have := vw_d_nn a b (vw_col t x y) (vw_col f x y); omega)
    · split
      · exact vw_bd1 hM hL (fun x y => by have := vw_bg_v hR y b; split <;> omega)
      · have h1 := vw_bg_v hL a b
        have h2 := vw_bg_v hR a b
        split
        · omega
        · split
          · split <;> omega
          · have := vw_b_01 (vw_G k L a b); omega
theorem vw_W_ne {L : List vw_T} {f : Int32 → Int32 → Int} (h : ∀ x, x ∈ L → f x.1 x.2.1 = 0) : vw_W L f = 0 := vw_S_zero (fun x hx => by rw [h x hx, Int.zero_mul])
theorem vw_G_un {k : Int32} {oL nL dL : List vw_T} (ho : vw_ps oL) (hn : vw_ps nL) (hL : ∀ a b, vw_v nL a b = vw_v oL a b + vw_v dL a b) {a b : Int32} (hd : ∀ x, x ∈ dL → x.1 ≠ a) : vw_G k nL a b ↔ vw_G k oL a b := by
  refine vw_G_iff hn ho (fun b => ?_) (fun f => ?_)
  · rw [hL, vw_v_none (l := dL) (fun x hx e => hd x hx (vw_k_eq.mp e).1)]; omega
  · unfold vw_gs
    rw [vw_W_add hL, vw_W_ne (L := dL) (fun x hx => if_neg (hd x hx))]; omega
theorem vw_F3_st {t f : Int32} {oL nL dL oR nR dR : List vw_T} (hL : ∀ a b, vw_v nL a b = vw_v oL a b + vw_v dL a b) (hR : ∀ a b, vw_v nR a b = vw_v oR a b + vw_v dR a b) (a b : Int32) :
    vw_W dL (fun x y => if x = a then vw_v nR y b else 0) + vw_W oL (fun x y => if x = a then vw_v dR y b else 0) = vw_F 3 t f nL nR a b - vw_F 3 t f oL oR a b := by
  rw [vw_F3, vw_F3, vw_W_add hL]
  rw [vw_W_fadd (l := oL) (f := fun x y => if x = a then vw_v nR y b else 0) (g := fun x y => if x = a then vw_v oR y b else 0) (h := fun x y => if x = a then vw_v dR y b else 0) (fun x y => by
    by_cases c : x = a
    · rw [if_pos c, if_pos c, if_pos c, hR]
    · rw [if_neg c, if_neg c, if_neg c]; rfl)]
  omega
end
section
def vw_H (w : Nat) (A B M sz : Nat → Int32) (l : Nat) (L : List vw_T) : Prop :=
  sz l = nI L.length ∧ L.length ≤ w ∧ ∀ i x, L[i]? = some x → A (l * w + i) = x.1 ∧ B (l * w + i) = x.2.1 ∧ (M (l * w + i)).toInt = x.2.2
def vw_fr (w o : Nat) (A A' : Nat → Int32) : Prop := ∀ j, (j < o * w ∨ o * w + w ≤ j) → A' j = A j
theorem vw_fr_rf {w o : Nat} {A : Nat → Int32} : vw_fr w o A A := fun _ _ => rfl
theorem vw_fr_u {w o i : Nat} {A A' : Nat → Int32} {x : Int32} (h : vw_fr w o A A') (hi : i < w) : vw_fr w o A (upd A' (o * w + i) x) := fun j hj => by
  rw [pk_un (by omega)]; exact h j hj
theorem vw_sep {w o l i : Nat} (ne : l ≠ o) (hi : i < w) : l * w + i < o * w ∨ o * w + w ≤ l * w + i := by
  rcases Nat.lt_or_gt_of_ne ne with h | h
  · have h2 := Nat.mul_le_mul_right w (show l + 1 ≤ o from h)
    rw [Nat.add_mul, Nat.one_mul] at h2
    omega
  · have h2 := Nat.mul_le_mul_right w (show o + 1 ≤ l from h)
    rw [Nat.add_mul, Nat.one_mul] at h2
    omega
theorem vw_H_fr {w o l : Nat} {A B M sz A' B' M' sz' : Nat → Int32} {L : List vw_T} (h : vw_H w A B M sz l L) (ne : l ≠ o) (hA : vw_fr w o A A') (hB : vw_fr w o B B') (hM : vw_fr w o M M') (hs : sz' l = sz l) : vw_H w A' B' M' sz' l L := by
  refine ⟨hs.trans h.1, h.2.1, fun i x hx => ?_⟩
  have h1 := h.2.2 i x hx
  have h2 := vw_sep (w := w) (o := o) (l := l) (i := i) ne (Nat.lt_of_lt_of_le (vw_ix hx) h.2.1)
  rw [hA _ h2, hB _ h2, hM _ h2]
  exact h1
theorem vw_half {a b : Nat} (h : a + b < 2 ^ 31) : (nI a + nI b) >>> ((1 : Int32) &&& 31) = nI ((a + b) / 2) := by
  rw [nI_add]
  exact pk_shrN h _ 1 (by decide)
theorem vw_v_off {L L1 L2 : List vw_T} {x : vw_T} {a b : Int32} (so : vw_so L) (e : L = L1 ++ x :: L2) (h1 : ∀ y, y ∈ L1 → vw_q y < vw_k a b) (h2 : vw_k a b ≤ vw_q x) (n : ¬ (x.1 = a ∧ x.2.1 = b)) : ∀ y, y ∈ L → vw_q y ≠ vw_k a b := by
  subst e
  intro y hy
  have h3 := (List.pairwise_append.mp so).2.1
  rcases List.mem_append.mp hy with h | h
  · exact Int.ne_of_lt (h1 y h)
  · have h4 : vw_q x ≠ vw_k a b := fun z => n (vw_k_eq.mp z)
    rcases List.mem_cons.mp h with rfl | h
    · exact h4
    · have h5 := (List.pairwise_cons.mp h3).1 y h
      omega
theorem vw_i32 {x : Int32} {m : Int} (h : x.toInt = m) : x = Int32.ofInt m := by rw [← h, Int32.ofInt_toInt]
section
variable {f_width f_relSlots f_emptyList f_accRoom f_leastInt f_tableCount f_maxViews f_maxRows f_maxMult f_side f_viewCount f_pendCount f_accCount f_commits : Int32} {a_rowA a_rowB a_rowM a_size a_relKind a_relLeft a_relRight a_relFirst a_relSecond a_pendTable a_pendA a_pendB a_pendN a_accA a_accB : Nat → Int32} {a_accM : Nat → Int64}
theorem vw_cmp {post : Int32 → Prop} {a b c d : Int32} (h1 : vw_k a b < vw_k c d → post (-1)) (h0 : vw_k a b = vw_k c d → post 0) (h2 : vw_k c d < vw_k a b → post 1) : wpX_compare post (f_width, f_relSlots, f_emptyList, f_accRoom, f_leastInt, f_tableCount, f_maxViews, f_maxRows, f_maxMult, f_side, f_viewCount, f_pendCount, f_accCount, f_commits, a_rowA, a_rowB, a_rowM, a_size, a_relKind, a_relLeft, a_relRight, a_relFirst, a_relSecond, a_pendTable, a_pendA, a_pendB, a_pendN, a_accA, a_accB, a_accM) a b c d := by
  refine br_c (fun e => br_c (fun e2 => ?_) (fun n2 => br_c (fun l => ?_) (fun l => ?_))) (fun n1 => br_c (fun l => ?_) (fun l => ?_))
  · exact h0 (vw_k_eq.mpr ⟨e, e2⟩)
  · exact h2 (vw_k_lt.mpr (Or.inr ⟨e.symm, Int32.lt_of_le_of_ne l (fun z => n2 z.symm)⟩))
  · exact h1 (vw_k_lt.mpr (Or.inr ⟨e, Int32.not_le.mp l⟩))
  · exact h2 (vw_k_lt.mpr (Or.inl (Int32.lt_of_le_of_ne l (fun z => n1 z.symm))))
  · exact h1 (vw_k_lt.mpr (Or.inl (Int32.not_le.mp l)))
theorem vw_lb_loop {post : Int32 → Prop} {L : List vw_T} {l : Nat} {a b : Int32} (hl : l < 45) (H : vw_H 24 a_rowA a_rowB a_rowM a_size l L) (so : vw_so L)
    (hp : ∀ L1 L2, L = L1 ++ L2 → (∀ x, x ∈ L1 → vw_q x < vw_k a b) → (∀ x, x ∈ L2 → vw_k a b ≤ vw_q x) → post (nI L1.length)) :
    ∀ d lo hi st n, st + d = 16 → hi - lo < 2 ^ d → lo ≤ hi → hi ≤ L.length → (∀ i x, L[i]? = some x → i < lo → vw_q x < vw_k a b) → (∀ i x, L[i]? = some x → hi ≤ i → vw_k a b ≤ vw_q x) → d < n → wX_lowerBound_20 post a b (nI (l * 24)) f_width f_relSlots f_emptyList f_accRoom f_leastInt f_tableCount f_maxViews f_maxRows f_maxMult f_side f_viewCount f_pendCount f_accCount f_commits a_rowA a_rowB a_rowM a_size a_relKind a_relLeft a_relRight a_relFirst a_relSecond a_pendTable a_pendA a_pendB a_pendN a_accA a_accB a_accM n (nI lo) (nI hi) (nI st) := by
  have hw := H.2.1
  have fin : ∀ lo, lo ≤ L.length → (∀ i x, L[i]? = some x → i < lo → vw_q x < vw_k a b) → (∀ i x, L[i]? = some x → lo ≤ i → vw_k a b ≤ vw_q x) → post (nI lo) := by
    intro lo h0 h1 h2
    have e : (L.take lo).length = lo := by rw [List.length_take]; omega
    have h3 := hp (L.take lo) (L.drop lo) (List.take_append_drop lo L).symm (fun x hx => by obtain ⟨i, hi, hx⟩ := vw_take hx; exact h1 i x hx hi) (fun x hx => by obtain ⟨i, hi, hx⟩ := vw_drop hx; exact h2 i x hx hi)
    rw [e] at h3
    exact h3
  intro d
  induction d with
  | zero =>
    intro lo hi st n hs hd hlh hh h1 h2 hn
    obtain ⟨n, rfl⟩ : ∃ m, n = m + 1 := ⟨n - 1, by omega⟩
    have e : hi = lo := by omega
    subst e
    exact br_t (nI_le (a := 16) (by omega) (by omega)) (fin hi hh h1 h2)
  | succ d ih =>
    intro lo hi st n hs hd hlh hh h1 h2 hn
    obtain ⟨n, rfl⟩ : ∃ m, n = m + 1 := ⟨n - 1, by omega⟩
    refine br_f (nI_ge (b := 16) (by omega) (by decide)) ?_
    by_cases c : hi ≤ lo
    · have e : hi = lo := by omega
      subst e
      exact br_t (nI_le (by omega) (by omega)) (fin hi hh h1 h2)
    · have hpw : 2 ^ (d + 1) = 2 * 2 ^ d := by rw [Nat.pow_succ, Nat.mul_comm]
      rw [hpw] at hd
      generalize 2 ^ d = P at hd ih
      obtain ⟨x, hx⟩ := vw_ex (l := L) (i := (lo + hi) / 2) (by omega)
      have hH := H.2.2 _ x hx
      refine br_f (nI_ge (by omega) (by omega)) (nm_r (e' := nI ((lo + hi) / 2)) (vw_half (by omega)) ?_)
      have hm1 : lo ≤ (lo + hi) / 2 := by omega
      have hm2 : (lo + hi) / 2 < hi := by omega
      have hm3 : hi - ((lo + hi) / 2 + 1) < P := by omega
      have hm4 : (lo + hi) / 2 - lo < P := by omega
      generalize (lo + hi) / 2 = mid at hx hH hm1 hm2 hm3 hm4 ⊢
      rw [nI_add, nI_clamp (by omega), hH.1, hH.2.1]
      have up : vw_k a b ≤ vw_q x → ∀ i y, L[i]? = some y → mid ≤ i → vw_k a b ≤ vw_q y := by
        intro h i y hy hi
        rcases Nat.lt_or_ge mid i with c2 | c2
        · have := vw_so_ix so hx hy c2; omega
        · have e : i = mid := by omega
          subst e
          rw [hx] at hy
          cases hy
          exact h
      refine ⟨vp_in_nI (by omega) (by decide), vp_in_nI (by omega) (by decide), vw_cmp (fun h => ?_) (fun h => ?_) (fun h => ?_)⟩
      · refine br_f (by decide) (nm_r (nI_1 _) (nm_r (nI_1 _) (ih _ _ _ _ (by omega) hm3 (by omega) hh ?_ h2 (by omega))))
        intro i y hy hi
        rcases Nat.lt_or_ge i mid with c2 | c2
        · exact Int.lt_trans (vw_so_ix so hy hx c2) h
        · have e : i = mid := by omega
          subst e
          rw [hx] at hy
          cases hy
          exact h
      · exact br_t (by decide) (nm_r (nI_1 _) (ih _ _ _ _ (by omega) hm4 (by omega) (by omega) h1 (up (Int.le_of_eq h.symm)) (by omega)))
      · exact br_t (by decide) (nm_r (nI_1 _) (ih _ _ _ _ (by omega) hm4 (by omega) (by omega) h1 (up (Int.le_of_lt h)) (by omega)))
theorem vw_lb {post : Int32 → Prop} {L : List vw_T} {l : Nat} {a b : Int32} (hl : l < 45) (H : vw_H 24 a_rowA a_rowB a_rowM a_size l L) (so : vw_so L)
    (hp : ∀ L1 L2, L = L1 ++ L2 → (∀ x, x ∈ L1 → vw_q x < vw_k a b) → (∀ x, x ∈ L2 → vw_k a b ≤ vw_q x) → post (nI L1.length)) : wpX_lowerBound post (f_width, f_relSlots, f_emptyList, f_accRoom, f_leastInt, f_tableCount, f_maxViews, f_maxRows, f_maxMult, f_side, f_viewCount, f_pendCount, f_accCount, f_commits, a_rowA, a_rowB, a_rowM, a_size, a_relKind, a_relLeft, a_relRight, a_relFirst, a_relSecond, a_pendTable, a_pendA, a_pendB, a_pendN, a_accA, a_accB, a_accM) (nI l) a b := by
  have hw := H.2.1
  refine nm_r (e' := nI (l * 24)) (pk_mul l 24) ⟨vp_in_nI hl (by decide), nm_r (e' := nI L.length) ?_ ⟨17, ?_⟩⟩
  · rw [nI_clamp (by omega)]; exact H.1
  · exact vw_lb_loop hl H so hp 16 0 L.length 0 17 rfl (by omega) (by omega) (by omega) (fun i x _ h => absurd h (by omega)) (fun i x hx h => absurd (vw_ix hx) (by omega)) (by omega)
theorem vw_vi {post : Int32 → Prop} {L : List vw_T} {l : Nat} {a b : Int32} (hl : l < 45) (H : vw_H 24 a_rowA a_rowB a_rowM a_size l L) (so : vw_so L)
    (hp : ∀ r : Int32, r.toInt = vw_v L a b → post r) : wpX_valueIn post (f_width, f_relSlots, f_emptyList, f_accRoom, f_leastInt, f_tableCount, f_maxViews, f_maxRows, f_maxMult, f_side, f_viewCount, f_pendCount, f_accCount, f_commits, a_rowA, a_rowB, a_rowM, a_size, a_relKind, a_relLeft, a_relRight, a_relFirst, a_relSecond, a_pendTable, a_pendA, a_pendB, a_pendN, a_accA, a_accB, a_accM) (nI l) a b := by
  have hw := H.2.1
  unfold wpX_valueIn
  dsimp only
  refine vw_lb hl H so (fun L1 L2 e h1 h2 => ?_)
  have hl1 : L1.length + L2.length = L.length := by rw [e, List.length_append]
  refine nm_r (e' := nI (l * 24 + L1.length)) ((congrArg (fun z => z + nI L1.length) (pk_mul l 24)).trans (nI_add _ _)) ⟨vp_in_nI hl (by decide), ?_⟩
  rw [nI_clamp (n := l) (by omega), H.1]
  cases L2 with
  | nil =>
    refine br_t (nI_le (by simp at hl1; omega) (by omega)) (hp 0 ?_)
    rw [vw_v_none (fun x hx => ?_)]
    · rfl
    · rw [e, List.append_nil] at hx
      exact Int.ne_of_lt (h1 x hx)
  | cons x L2 =>
    have hx : L[L1.length]? = some x := by rw [e]; exact vw_mid _ _ _
    have hH := H.2.2 _ x hx
    have hlt := vw_ix hx
    rw [nI_clamp (n := l * 24 + L1.length) (by omega), hH.1, hH.2.1]
    have hi : vp_in (nI (l * 24 + L1.length)) 1080 := vp_in_nI (by omega) (by decide)
    refine br_f (nI_ge hlt (by omega)) ⟨hi, ?_⟩
    have z : ¬ (x.1 = a ∧ x.2.1 = b) → (0 : Int32).toInt = vw_v L a b := fun n => by
      rw [vw_v_none (vw_v_off so e h1 (h2 x List.mem_cons_self) n)]; rfl
    by_cases c1 : x.1 = a
    · refine br_t c1 ⟨hi, ?_⟩
      by_cases c2 : x.2.1 = b
      · refine br_t c2 ⟨hi, hp _ ?_⟩
        rw [hH.2.2, ← c1, ← c2, vw_v_in (vw_so_nd so) (List.mem_of_getElem? hx)]
      · exact br_f c2 (hp 0 (z (fun n => c2 n.2)))
    · exact br_f c1 (hp 0 (z (fun n => c1 n.1)))
theorem vw_ct {post : Int32 → Prop} {L : List vw_T} {l : Nat} {a b : Int32} (hl : l < 45) (H : vw_H 24 a_rowA a_rowB a_rowM a_size l L) (so : vw_so L)
    (hp1 : (∃ x, x ∈ L ∧ x.1 = a ∧ x.2.1 = b) → post 1) (hp0 : (∀ x, x ∈ L → ¬ (x.1 = a ∧ x.2.1 = b)) → post 0) : wpX_contains post (f_width, f_relSlots, f_emptyList, f_accRoom, f_leastInt, f_tableCount, f_maxViews, f_maxRows, f_maxMult, f_side, f_viewCount, f_pendCount, f_accCount, f_commits, a_rowA, a_rowB, a_rowM, a_size, a_relKind, a_relLeft, a_relRight, a_relFirst, a_relSecond, a_pendTable, a_pendA, a_pendB, a_pendN, a_accA, a_accB, a_accM) (nI l) a b := by
  have hw := H.2.1
  unfold wpX_contains
  dsimp only
  refine vw_lb hl H so (fun L1 L2 e h1 h2 => ?_)
  have hl1 : L1.length + L2.length = L.length := by rw [e, List.length_append]
  refine nm_r (e' := nI (l * 24 + L1.length)) ((congrArg (fun z => z + nI L1.length) (pk_mul l 24)).trans (nI_add _ _)) ⟨vp_in_nI hl (by decide), ?_⟩
  rw [nI_clamp (n := l) (by omega), H.1]
  cases L2 with
  | nil =>
    refine br_t (nI_le (by simp at hl1; omega) (by omega)) (hp0 ?_)
    intro x hx n
    rw [e, List.append_nil] at hx
    exact Int.ne_of_lt (h1 x hx) (vw_k_eq.mpr n)
  | cons x L2 =>
    have hx : L[L1.length]? = some x := by rw [e]; exact vw_mid _ _ _
    have hH := H.2.2 _ x hx
    have hlt := vw_ix hx
    rw [nI_clamp (n := l * 24 + L1.length) (by omega), hH.1, hH.2.1]
    have hi : vp_in (nI (l * 24 + L1.length)) 1080 := vp_in_nI (by omega) (by decide)
    refine br_f (nI_ge hlt (by omega)) ⟨hi, ?_⟩
    have z : ¬ (x.1 = a ∧ x.2.1 = b) → post 0 := fun n => hp0 (fun y hy n2 => vw_v_off so e h1 (h2 x List.mem_cons_self) n y hy (vw_k_eq.mpr n2))
    by_cases c1 : x.1 = a
    · refine br_t c1 ⟨hi, ?_⟩
      by_cases c2 : x.2.1 = b
      · exact br_t c2 (hp1 ⟨x, List.mem_of_getElem? hx, c1, c2⟩)
      · exact br_f c2 (z (fun n => c2 n.2))
    · exact br_f c1 (z (fun n => c1 n.1))
theorem vw_ge_loop {post : Int32 → Prop} {L : List vw_T} {l : Nat} {y : Int32} (hl : l < 45) (H : vw_H 24 a_rowA a_rowB a_rowM a_size l L) :
    ∀ (Q P : List vw_T) (n : Nat), L = P ++ Q → Q.length < n → (∀ G S, Q = G ++ S → (∀ x, x ∈ G → x.1 = y) → (∀ x, S.head? = some x → x.1 ≠ y) → post (nI (P.length + G.length))) → wX_groupEnd_17 post y (nI (l * 24)) (nI L.length) f_width f_relSlots f_emptyList f_accRoom f_leastInt f_tableCount f_maxViews f_maxRows f_maxMult f_side f_viewCount f_pendCount f_accCount f_commits a_rowA a_rowB a_rowM a_size a_relKind a_relLeft a_relRight a_relFirst a_relSecond a_pendTable a_pendA a_pendB a_pendN a_accA a_accB a_accM n (nI P.length) := by
  have hw := H.2.1
  intro Q
  induction Q with
  | nil =>
    intro P n e hn hp
    obtain ⟨n, rfl⟩ : ∃ m, n = m + 1 := ⟨n - 1, by omega⟩
    have hl1 : L.length = P.length := by rw [e, List.append_nil]
    refine br_t (nI_le (by omega) (by omega)) ?_
    have h := hp [] [] rfl (fun x hx => absurd hx List.not_mem_nil) (fun x hx => by simp at hx)
    rw [hl1]
    exact h
  | cons x Q ih =>
    intro P n e hn hp
    obtain ⟨n, rfl⟩ : ∃ m, n = m + 1 := ⟨n - 1, by omega⟩
    have hx : L[P.length]? = some x := by rw [e]; exact vw_mid _ _ _
    have hH := H.2.2 _ x hx
    have hlt := vw_ix hx
    rw [List.length_cons] at hn
    refine br_f (nI_ge hlt (by omega)) ?_
    rw [nI_add, nI_clamp (by omega), hH.1]
    refine ⟨vp_in_nI (by omega) (by decide), ?_⟩
    by_cases c : x.1 = y
    · have h := ih (P ++ [x]) n (by rw [e]; simp) (by omega) (fun G S eq hg hs => by
        have h := hp (x :: G) S (by rw [eq]; rfl) (fun z hz => by
          rcases List.mem_cons.mp hz with rfl | hz
          · exact c
          · exact hg z hz) hs
        have e2 : (P ++ [x]).length + G.length = P.length + (x :: G).length := by simp; omega
        rw [e2]
        exact h)
      have e3 : (P ++ [x]).length = P.length + 1 := by simp
      rw [e3] at h
      exact br_t c (nm_r (nI_1 _) h)
    · exact br_f c (hp [] (x :: Q) rfl (fun z hz => absurd hz List.not_mem_nil) (fun z hz => by cases hz; exact c))
theorem vw_ge {post : Int32 → Prop} {L P Q : List vw_T} {l : Nat} {y : Int32} (hl : l < 45) (H : vw_H 24 a_rowA a_rowB a_rowM a_size l L) (e : L = P ++ Q)
    (hp : ∀ G S, Q = G ++ S → (∀ x, x ∈ G → x.1 = y) → (∀ x, S.head? = some x → x.1 ≠ y) → post (nI (P.length + G.length))) : wpX_groupEnd post (f_width, f_relSlots, f_emptyList, f_accRoom, f_leastInt, f_tableCount, f_maxViews, f_maxRows, f_maxMult, f_side, f_viewCount, f_pendCount, f_accCount, f_commits, a_rowA, a_rowB, a_rowM, a_size, a_relKind, a_relLeft, a_relRight, a_relFirst, a_relSecond, a_pendTable, a_pendA, a_pendB, a_pendN, a_accA, a_accB, a_accM) (nI l) (nI P.length) y := by
  have hw := H.2.1
  refine nm_r (e' := nI (l * 24)) (pk_mul l 24) ⟨vp_in_nI hl (by decide), nm_r (e' := nI L.length) ?_ ⟨Q.length + 1, ?_⟩⟩
  · rw [nI_clamp (by omega)]; exact H.1
  · exact vw_ge_loop hl H Q P _ e (by omega) hp
theorem vw_sm_loop {post : Int32 → Prop} {L S : List vw_T} {l : Nat} (hl : l < 45) (H : vw_H 24 a_rowA a_rowB a_rowM a_size l L) :
    ∀ (G P : List vw_T) (n : Nat) (s : Int) (t : Nat), L = P ++ (G ++ S) → G.length < n → t = P.length + G.length → post (Int32.ofInt (s + vw_S G (fun x => x.2.2))) → wX_sumOfMultiplicities_12 post (nI t) (nI (l * 24)) f_width f_relSlots f_emptyList f_accRoom f_leastInt f_tableCount f_maxViews f_maxRows f_maxMult f_side f_viewCount f_pendCount f_accCount f_commits a_rowA a_rowB a_rowM a_size a_relKind a_relLeft a_relRight a_relFirst a_relSecond a_pendTable a_pendA a_pendB a_pendN a_accA a_accB a_accM n (Int32.ofInt s) (nI P.length) := by
  have hw := H.2.1
  intro G
  induction G with
  | nil =>
    intro P n s t e hn ht hp
    obtain ⟨n, rfl⟩ : ∃ m, n = m + 1 := ⟨n - 1, by omega⟩
    have hl1 : P.length ≤ L.length := by rw [e, List.length_append]; omega
    rw [List.length_nil] at ht
    have e2 : s + vw_S [] (fun x => x.2.2) = s := Int.add_zero s
    rw [e2] at hp
    exact br_t (nI_le (by omega) (by omega)) hp
  | cons x G ih =>
    intro P n s t e hn ht hp
    obtain ⟨n, rfl⟩ : ∃ m, n = m + 1 := ⟨n - 1, by omega⟩
    have hx : L[P.length]? = some x := by rw [e]; exact vw_mid _ _ _
    have hH := H.2.2 _ x hx
    have hlt := vw_ix hx
    have hl1 : L.length = P.length + (G.length + 1 + S.length) := by rw [e]; simp; omega
    rw [List.length_cons] at hn ht
    refine br_f (nI_ge (by omega) (by omega)) ?_
    rw [nI_add, nI_clamp (by omega)]
    refine ⟨vp_in_nI (by omega) (by decide), nm_r (e' := Int32.ofInt (s + x.2.2)) (by rw [Int32.ofInt_add, vw_i32 hH.2.2]) (nm_r (nI_1 _) ?_)⟩
    have h := ih (P ++ [x]) n (s + x.2.2) t (by rw [e]; simp) (by omega) (by simp; omega) (by
      have e2 : s + x.2.2 + vw_S G (fun x => x.2.2) = s + vw_S (x :: G) (fun x => x.2.2) := by
        show _ = s + (x.2.2 + vw_S G (fun x => x.2.2)); omega
      rw [e2]; exact hp)
    have e3 : (P ++ [x]).length = P.length + 1 := by simp
    rw [e3] at h
    exact h
theorem vw_sm {post : Int32 → Prop} {L P G S : List vw_T} {l : Nat} (hl : l < 45) (H : vw_H 24 a_rowA a_rowB a_rowM a_size l L) (e : L = P ++ (G ++ S))
    (hp : post (Int32.ofInt (vw_S G (fun x => x.2.2)))) : wpX_sumOfMultiplicities post (f_width, f_relSlots, f_emptyList, f_accRoom, f_leastInt, f_tableCount, f_maxViews, f_maxRows, f_maxMult, f_side, f_viewCount, f_pendCount, f_accCount, f_commits, a_rowA, a_rowB, a_rowM, a_size, a_relKind, a_relLeft, a_relRight, a_relFirst, a_relSecond, a_pendTable, a_pendA, a_pendB, a_pendN, a_accA, a_accB, a_accM) (nI l) (nI P.length) (nI (P.length + G.length)) := by
  refine nm_r (e' := nI (l * 24)) (pk_mul l 24) ⟨G.length + 1, ?_⟩
  exact vw_sm_loop hl H G P _ 0 _ e (by omega) rfl (by rw [Int.zero_add]; exact hp)
theorem vw_gv_loop {post : Int32 → Prop} {L S : List vw_T} {l : Nat} (hl : l < 45) (H : vw_H 24 a_rowA a_rowB a_rowM a_size l L) :
    ∀ (G P : List vw_T) (n : Nat) (s : Int) (t : Nat), L = P ++ (G ++ S) → G.length < n → t = P.length + G.length → post (Int32.ofInt (s + vw_S G (fun x => x.2.1.toInt * x.2.2))) → wX_groupValue_62 post (nI t) (nI (l * 24)) f_width f_relSlots f_emptyList f_accRoom f_leastInt f_tableCount f_maxViews f_maxRows f_maxMult f_side f_viewCount f_pendCount f_accCount f_commits a_rowA a_rowB a_rowM a_size a_relKind a_relLeft a_relRight a_relFirst a_relSecond a_pendTable a_pendA a_pendB a_pendN a_accA a_accB a_accM n (Int32.ofInt s) (nI P.length) := by
  have hw := H.2.1
  intro G
  induction G with
  | nil =>
    intro P n s t e hn ht hp
    obtain ⟨n, rfl⟩ : ∃ m, n = m + 1 := ⟨n - 1, by omega⟩
    have hl1 : P.length ≤ L.length := by rw [e, List.length_append]; omega
    rw [List.length_nil] at ht
    have e2 : s + vw_S [] (fun x => x.2.1.toInt * x.2.2) = s := Int.add_zero s
    rw [e2] at hp
    exact br_t (nI_le (by omega) (by omega)) hp
  | cons x G ih =>
    intro P n s t e hn ht hp
    obtain ⟨n, rfl⟩ : ∃ m, n = m + 1 := ⟨n - 1, by omega⟩
    have hx : L[P.length]? = some x := by rw [e]; exact vw_mid _ _ _
    have hH := H.2.2 _ x hx
    have hlt := vw_ix hx
    have hl1 : L.length = P.length + (G.length + 1 + S.length) := by rw [e]; simp; omega
    rw [List.length_cons] at hn ht
    refine br_f (nI_ge (by omega) (by omega)) ?_
    rw [nI_add, nI_clamp (by omega), hH.2.1]
    refine ⟨vp_in_nI (by omega) (by decide), vp_in_nI (by omega) (by decide), nm_r (e' := Int32.ofInt (s + x.2.1.toInt * x.2.2)) (by rw [Int32.ofInt_add, Int32.ofInt_mul, Int32.ofInt_toInt, vw_i32 hH.2.2]) (nm_r (nI_1 _) ?_)⟩
    have h := ih (P ++ [x]) n (s + x.2.1.toInt * x.2.2) t (by rw [e]; simp) (by omega) (by simp; omega) (by
      have e2 : s + x.2.1.toInt * x.2.2 + vw_S G (fun x => x.2.1.toInt * x.2.2) = s + vw_S (x :: G) (fun x => x.2.1.toInt * x.2.2) := by
        show _ = s + (x.2.1.toInt * x.2.2 + vw_S G (fun x => x.2.1.toInt * x.2.2)); omega
      rw [e2]; exact hp)
    have e3 : (P ++ [x]).length = P.length + 1 := by simp
    rw [e3] at h
    exact h
end
theorem vw_gs_g {P G S : List vw_T} {a : Int32} (hP : ∀ x, x ∈ P → x.1 ≠ a) (hG : ∀ x, x ∈ G → x.1 = a) (hS : ∀ x, x ∈ S → x.1 ≠ a) (f : Int32 → Int) : vw_gs (P ++ (G ++ S)) a f = vw_S G (fun x => f x.2.1 * x.2.2) := by
  unfold vw_gs vw_W
  rw [vw_grp_S (g := fun x => (if x.1 = a then f x.2.1 else 0) * x.2.2) hP hS (fun x hx => by rw [if_neg hx, Int.zero_mul])]
  exact vw_S_congr (fun x hx => by rw [if_pos (hG x hx)])
theorem vw_same {x y : vw_T} {a : Int32} (hx : x.1 = a) (hy : y.1 = a) (h : vw_q x < vw_q y) : x.2.1 < y.2.1 := by
  rcases vw_k_lt.mp h with h | h
  · rw [hx, hy] at h; exact absurd h Int32.lt_irrefl
  · exact h.2
section
variable {f_width f_relSlots f_emptyList f_accRoom f_leastInt f_tableCount f_maxViews f_maxRows f_maxMult f_side f_viewCount f_pendCount f_accCount f_commits : Int32} {a_rowA a_rowB a_rowM a_size a_relKind a_relLeft a_relRight a_relFirst a_relSecond a_pendTable a_pendA a_pendB a_pendN a_accA a_accB : Nat → Int32} {a_accM : Nat → Int64}
theorem vw_gv {post : Int32 → Prop} {L P G S : List vw_T} {l : Nat} {k a : Int32} (hk : k = 6 ∨ k = 7 ∨ k = 8 ∨ k = 9) (hl : l < 45) (H : vw_H 24 a_rowA a_rowB a_rowM a_size l L) (so : vw_so L) (e : L = P ++ (G ++ S))
    (hP : ∀ x, x ∈ P → x.1 ≠ a) (hG : ∀ x, x ∈ G → x.1 = a) (hS : ∀ x, x ∈ S → x.1 ≠ a) (hne : G ≠ [])
    (hp : ∀ r, vw_G k L a r → post r) : wpX_groupValue post (f_width, f_relSlots, f_emptyList, f_accRoom, f_leastInt, f_tableCount, f_maxViews, f_maxRows, f_maxMult, f_side, f_viewCount, f_pendCount, f_accCount, f_commits, a_rowA, a_rowB, a_rowM, a_size, a_relKind, a_relLeft, a_relRight, a_relFirst, a_relSecond, a_pendTable, a_pendA, a_pendB, a_pendN, a_accA, a_accB, a_accM) k (nI l) (nI P.length) (nI (P.length + G.length)) := by
  have hw := H.2.1
  have hl1 : L.length = P.length + (G.length + S.length) := by rw [e]; simp
  have hg0 : 0 < G.length := List.length_pos_iff.mpr hne
  have hin : ∀ z, z ∈ L → z.1 = a → z ∈ G := by
    intro z hz ha
    rw [e] at hz
    rcases List.mem_append.mp hz with h | h
    · exact absurd ha (hP z h)
    · rcases List.mem_append.mp h with h | h
      · exact h
      · exact absurd ha (hS z h)
  have hGL : ∀ z, z ∈ G → z ∈ L := fun z hz => by rw [e]; exact List.mem_append_right _ (List.mem_append_left _ hz)
  have soG : vw_so G := by
    rw [e] at so
    exact (List.pairwise_append.mp (List.pairwise_append.mp so).2.1).1
  have hex : ∃ z, z ∈ L ∧ z.1 = a := by
    obtain ⟨z, hz⟩ := List.exists_mem_of_ne_nil G hne
    exact ⟨z, hGL z hz, hG z hz⟩
  refine nm_r (e' := nI (l * 24)) (pk_mul l 24) ?_
  rcases hk with rfl | rfl | rfl | rfl
  · refine br_t rfl (vw_sm hl H e (hp _ ⟨hex, fun _ => ?_, fun z => absurd z (by decide), fun z => absurd z (by decide), fun z => absurd z (by decide)⟩))
    rw [e, vw_gs_g hP hG hS]
    exact congrArg _ (vw_S_congr (fun x _ => (Int.one_mul _).symm))
  · refine br_f (by decide) (br_f (by decide) (br_f (by decide) ⟨G.length + 1, vw_gv_loop hl H G P _ 0 _ e (by omega) rfl (hp _ ⟨hex, fun z => absurd z (by decide), fun _ => ?_, fun z => absurd z (by decide), fun z => absurd z (by decide)⟩)⟩))
    rw [e, vw_gs_g hP hG hS, Int.zero_add]
  · refine br_f (by decide) (br_t rfl ?_)
    cases G with
    | nil => exact absurd rfl hne
    | cons x G =>
      have hx : L[P.length]? = some x := by rw [e]; exact vw_mid _ _ _
      have hH := H.2.2 _ x hx
      have hlt := vw_ix hx
      rw [nI_add, nI_clamp (by omega), hH.2.1]
      refine ⟨vp_in_nI (by omega) (by decide), hp _ ⟨hex, fun z => absurd z (by decide), fun z => absurd z (by decide), fun _ => ⟨⟨x, hGL x List.mem_cons_self, hG x List.mem_cons_self, rfl⟩, fun z hz ha => ?_⟩, fun z => absurd z (by decide)⟩⟩
      rcases List.mem_cons.mp (hin z hz ha) with rfl | h
      · exact Int32.le_refl _
      · exact Int32.le_of_lt (vw_same (hG x List.mem_cons_self) ha ((List.pairwise_cons.mp soG).1 z h))
  · refine br_f (by decide) (br_f (by decide) (br_t rfl ?_))
    obtain ⟨G', x, rfl⟩ : ∃ G' x, G = G' ++ [x] := ⟨G.dropLast, G.getLast hne, (List.dropLast_concat_getLast hne).symm⟩
    have hx : L[P.length + G'.length]? = some x := by
      have e2 : L = (P ++ G') ++ x :: S := by rw [e]; simp
      have h := vw_mid (P ++ G') x S
      rw [← e2, List.length_append] at h
      exact h
    have hH := H.2.2 _ x hx
    have hlt := vw_ix hx
    have e3 : nI (l * 24) + nI (P.length + (G' ++ [x]).length) - 1 = nI (l * 24 + (P.length + G'.length)) := by
      rw [nI_add, List.length_append, List.length_singleton]
      exact nI_pred (l * 24 + (P.length + G'.length))
    rw [e3, nI_clamp (by omega), hH.2.1]
    have hxG : x ∈ G' ++ [x] := List.mem_append_right _ List.mem_cons_self
    refine ⟨vp_in_nI (by omega) (by decide), hp _ ⟨hex, fun z => absurd z (by decide), fun z => absurd z (by decide), fun z => absurd z (by decide), fun _ => ⟨⟨x, hGL x hxG, hG x hxG, rfl⟩, fun z hz ha => ?_⟩⟩⟩
    rcases List.mem_append.mp (hin z hz ha) with h | h
    · exact Int32.le_of_lt (vw_same ha (hG x hxG) ((List.pairwise_append.mp soG).2.2 z h x List.mem_cons_self))
    · rw [List.mem_singleton.mp h]; exact Int32.le_refl _
end
end
section
def vw_A (A B : Nat → Int32) (M : Nat → Int64) (c K : Nat) (E : Int32 → Int32 → Int) : Prop :=
  c ≤ K ∧ (∀ i j, i < j → j < c → vw_k (A i) (B i) < vw_k (A j) (B j)) ∧ (∀ i, i < c → M i = Int64.ofInt (E (A i) (B i))) ∧ (∀ a b, (∀ i, i < c → ¬ (A i = a ∧ B i = b)) → Int64.ofInt (E a b) = 0)
theorem vw_A_eq {A B : Nat → Int32} {M : Nat → Int64} {c K K' : Nat} {E E' : Int32 → Int32 → Int} (h : vw_A A B M c K E) (hK : K ≤ K') (e : ∀ a b, E' a b = E a b) : vw_A A B M c K' E' :=
  ⟨Nat.le_trans h.1 hK, h.2.1, fun i hi => by rw [e]; exact h.2.2.1 i hi, fun a b hn => by rw [e]; exact h.2.2.2 a b hn⟩
theorem vw_A_0 (A B : Nat → Int32) (M : Nat → Int64) : vw_A A B M 0 0 (fun _ _ => 0) :=
  ⟨Nat.le_refl 0, fun i j _ h => absurd h (by omega), fun i h => absurd h (by omega), fun _ _ _ => rfl⟩
theorem vw_A_up {A B : Nat → Int32} {M : Nat → Int64} {c K k : Nat} {E : Int32 → Int32 → Int} {a b : Int32} (m : Int) (h : vw_A A B M c K E) (hk : k < c) (ea : A k = a) (eb : B k = b) :
    vw_A A B (vp_updL M k (M k + Int64.ofInt m)) c (K + 1) (fun p q => E p q + vw_d p q a b * m) := by
  obtain ⟨h1, h2, h3, h4⟩ := h
  refine ⟨by omega, h2, fun i hi => ?_, fun p q hn => ?_⟩
  · dsimp only
    by_cases c1 : i = k
    · subst c1
      rw [pk_uLs, h3 i hi, ea, eb, vw_d_1, Int.one_mul, Int64.ofInt_add]
    · have ne : vw_k a b ≠ vw_k (A i) (B i) := by
        rw [← ea, ← eb]
        rcases Nat.lt_or_gt_of_ne c1 with c2 | c2
        · exact Int.ne_of_gt (h2 i k c2 hk)
        · exact Int.ne_of_lt (h2 k i c2 hi)
      rw [pk_uLn c1, vw_d_k ne, Int.zero_mul, Int.add_zero]; exact h3 i hi
  · dsimp only
    rw [vw_d_0 (fun z => hn k hk ⟨ea.trans z.1, eb.trans z.2⟩), Int.zero_mul, Int.add_zero]
    exact h4 p q hn
theorem vw_A_in {A B A' B' : Nat → Int32} {M M' : Nat → Int64} {c K k : Nat} {E : Int32 → Int32 → Int} {a b : Int32} {m : Int} (h : vw_A A B M c K E) (hk : k ≤ c)
    (h1 : ∀ i, i < k → vw_k (A i) (B i) < vw_k a b) (h2 : ∀ i, k ≤ i → i < c → vw_k a b < vw_k (A i) (B i))
    (g1 : ∀ i, i < k → A' i = A i ∧ B' i = B i ∧ M' i = M i) (ga : A' k = a) (gb : B' k = b) (gm : M' k = Int64.ofInt m) (g2 : ∀ i, k < i → i ≤ c → A' i = A (i - 1) ∧ B' i = B (i - 1) ∧ M' i = M (i - 1)) :
    vw_A A' B' M' (c + 1) (K + 1) (fun p q => E p q + vw_d p q a b * m) := by
  obtain ⟨b1, b2, b3, b4⟩ := h
  have abs : ∀ i, i < c → vw_k a b ≠ vw_k (A i) (B i) := by
    intro i hi
    rcases Nat.lt_or_ge i k with c1 | c1
    · exact Int.ne_of_gt (h1 i c1)
    · exact Int.ne_of_lt (h2 i c1 hi)
  refine ⟨by omega, fun i j hij hj => ?_, fun i hi => ?_, fun p q hn => ?_⟩
  · rcases Nat.lt_or_ge j k with c1 | c1
    · rw [(g1 j c1).1, (g1 j c1).2.1, (g1 i (by omega)).1, (g1 i (by omega)).2.1]
      exact b2 i j hij (by omega)
    · rcases Nat.eq_or_lt_of_le c1 with c2 | c2
      · subst c2
        rw [ga, gb, (g1 i hij).1, (g1 i hij).2.1]
        exact h1 i hij
      · rw [(g2 j c2 (by omega)).1, (g2 j c2 (by omega)).2.1]
        rcases Nat.lt_or_ge i k with c3 | c3
        · rw [(g1 i c3).1, (g1 i c3).2.1]
          exact b2 i (j - 1) (by omega) (by omega)
        · rcases Nat.eq_or_lt_of_le c3 with c4 | c4
          · subst c4
            rw [ga, gb]
            exact h2 (j - 1) (by omega) (by omega)
          · rw [(g2 i c4 (by omega)).1, (g2 i c4 (by omega)).2.1]
            exact b2 (i - 1) (j - 1) (by omega) (by omega)
  · dsimp only
    rcases Nat.lt_or_ge i k with c1 | c1
    · rw [(g1 i c1).1, (g1 i c1).2.1, (g1 i c1).2.2, vw_d_k (abs i (by omega)), Int.zero_mul, Int.add_zero]
      exact b3 i (by omega)
    · rcases Nat.eq_or_lt_of_le c1 with c2 | c2
      · subst c2
        rw [ga, gb, gm, vw_d_1, Int.one_mul, Int64.ofInt_add, b4 a b (fun i hi z => abs i hi (vw_k_eq.mpr ⟨z.1.symm, z.2.symm⟩)), Int64.zero_add]
      · rw [(g2 i c2 (by omega)).1, (g2 i c2 (by omega)).2.1, (g2 i c2 (by omega)).2.2, vw_d_k (abs (i - 1) (by omega)), Int.zero_mul, Int.add_zero]
        exact b3 (i - 1) (by omega)
  · have n1 : ¬ (a = p ∧ b = q) := fun z => hn k (by omega) ⟨ga.trans z.1, gb.trans z.2⟩
    dsimp only
    rw [vw_d_0 n1, Int.zero_mul, Int.add_zero]
    apply b4 p q
    intro i hi z
    rcases Nat.lt_or_ge i k with c1 | c1
    · exact hn i (by omega) ⟨(g1 i c1).1.trans z.1, (g1 i c1).2.1.trans z.2⟩
    · have g := g2 (i + 1) (by omega) (by omega)
      rw [Nat.add_sub_cancel] at g
      exact hn (i + 1) (by omega) ⟨g.1.trans z.1, g.2.1.trans z.2⟩
section
variable {f_width f_relSlots f_emptyList f_accRoom f_leastInt f_tableCount f_maxViews f_maxRows f_maxMult f_side f_viewCount f_pendCount f_accCount f_commits : Int32} {a_rowA a_rowB a_rowM a_size a_relKind a_relLeft a_relRight a_relFirst a_relSecond a_pendTable a_pendA a_pendB a_pendN a_accA a_accB : Nat → Int32} {a_accM : Nat → Int64}
theorem vw_ab_loop {post : Int32 → Prop} {c : Nat} {a b : Int32} (hc : c ≤ 576) (so : ∀ i j, i < j → j < c → vw_k (a_accA i) (a_accB i) < vw_k (a_accA j) (a_accB j))
    (hp : ∀ k, k ≤ c → (∀ i, i < k → vw_k (a_accA i) (a_accB i) < vw_k a b) → (∀ i, k ≤ i → i < c → vw_k a b ≤ vw_k (a_accA i) (a_accB i)) → post (nI k)) :
    ∀ d lo hi st n, st + d = 16 → hi - lo < 2 ^ d → lo ≤ hi → hi ≤ c → (∀ i, i < lo → vw_k (a_accA i) (a_accB i) < vw_k a b) → (∀ i, hi ≤ i → i < c → vw_k a b ≤ vw_k (a_accA i) (a_accB i)) → d < n → wX_accBound_11 post a b f_width f_relSlots f_emptyList f_accRoom f_leastInt f_tableCount f_maxViews f_maxRows f_maxMult f_side f_viewCount f_pendCount f_accCount f_commits a_rowA a_rowB a_rowM a_size a_relKind a_relLeft a_relRight a_relFirst a_relSecond a_pendTable a_pendA a_pendB a_pendN a_accA a_accB a_accM n (nI lo) (nI hi) (nI st) := by
  intro d
  induction d with
  | zero =>
    intro lo hi st n hs hd hlh hh h1 h2 hn
    obtain ⟨n, rfl⟩ : ∃ m, n = m + 1 := ⟨n - 1, by omega⟩
    have e : hi = lo := by omega
    subst e
    exact br_t (nI_le (a := 16) (by omega) (by omega)) (hp hi hh h1 h2)
  | succ d ih =>
    intro lo hi st n hs hd hlh hh h1 h2 hn
    obtain ⟨n, rfl⟩ : ∃ m, n = m + 1 := ⟨n - 1, by omega⟩
    refine br_f (nI_ge (b := 16) (by omega) (by decide)) ?_
    by_cases cc : hi ≤ lo
    · have e : hi = lo := by omega
      subst e
      exact br_t (nI_le (by omega) (by omega)) (hp hi hh h1 h2)
    · have hpw : 2 ^ (d + 1) = 2 * 2 ^ d := by rw [Nat.pow_succ, Nat.mul_comm]
      rw [hpw] at hd
      generalize 2 ^ d = P at hd ih
      refine br_f (nI_ge (by omega) (by omega)) (nm_r (e' := nI ((lo + hi) / 2)) (vw_half (by omega)) ?_)
      have hm1 : lo ≤ (lo + hi) / 2 := by omega
      have hm2 : (lo + hi) / 2 < hi := by omega
      have hm3 : hi - ((lo + hi) / 2 + 1) < P := by omega
      have hm4 : (lo + hi) / 2 - lo < P := by omega
      generalize (lo + hi) / 2 = mid at hm1 hm2 hm3 hm4 ⊢
      rw [nI_clamp (by omega)]
      have up : vw_k a b ≤ vw_k (a_accA mid) (a_accB mid) → ∀ i, mid ≤ i → i < c → vw_k a b ≤ vw_k (a_accA i) (a_accB i) := by
        intro h i hi hic
        rcases Nat.lt_or_ge mid i with c2 | c2
        · have := so mid i c2 hic; omega
        · have e : i = mid := by omega
          subst e
          exact h
      refine ⟨vp_in_nI (by omega) (by decide), vp_in_nI (by omega) (by decide), vw_cmp (fun h => ?_) (fun h => ?_) (fun h => ?_)⟩
      · refine br_f (by decide) (nm_r (nI_1 _) (nm_r (nI_1 _) (ih _ _ _ _ (by omega) hm3 (by omega) hh ?_ h2 (by omega))))
        intro i hi
        rcases Nat.lt_or_ge i mid with c2 | c2
        · exact Int.lt_trans (so i mid c2 (by omega)) h
        · have e : i = mid := by omega
          subst e
          exact h
      · exact br_t (by decide) (nm_r (nI_1 _) (ih _ _ _ _ (by omega) hm4 (by omega) (by omega) h1 (up (Int.le_of_eq h.symm)) (by omega)))
      · exact br_t (by decide) (nm_r (nI_1 _) (ih _ _ _ _ (by omega) hm4 (by omega) (by omega) h1 (up (Int.le_of_lt h)) (by omega)))
theorem vw_ab {post : Int32 → Prop} {c : Nat} {a b : Int32} (hc : c ≤ 576) (so : ∀ i j, i < j → j < c → vw_k (a_accA i) (a_accB i) < vw_k (a_accA j) (a_accB j))
    (hp : ∀ k, k ≤ c → (∀ i, i < k → vw_k (a_accA i) (a_accB i) < vw_k a b) → (∀ i, k ≤ i → i < c → vw_k a b ≤ vw_k (a_accA i) (a_accB i)) → post (nI k)) : wpX_accBound post (f_width, f_relSlots, f_emptyList, f_accRoom, f_leastInt, f_tableCount, f_maxViews, f_maxRows, f_maxMult, f_side, f_viewCount, f_pendCount, nI c, f_commits, a_rowA, a_rowB, a_rowM, a_size, a_relKind, a_relLeft, a_relRight, a_relFirst, a_relSecond, a_pendTable, a_pendA, a_pendB, a_pendN, a_accA, a_accB, a_accM) a b :=
  ⟨17, vw_ab_loop hc so hp 16 0 c 0 17 rfl (by omega) (by omega) (by omega) (fun i h => absurd h (by omega)) (fun i h h2 => absurd h (by omega)) (by omega)⟩
theorem vw_sh_loop {post : SX → Prop} {A B : Nat → Int32} {M : Nat → Int64} {c k : Nat} {a b : Int32} {m : Int64} (hc : c < 576) (hk : k ≤ c)
    (hp : ∀ A' B' M', (∀ i, i < k → A' i = A i ∧ B' i = B i ∧ M' i = M i) → A' k = a → B' k = b → M' k = m → (∀ i, k < i → i ≤ c → A' i = A (i - 1) ∧ B' i = B (i - 1) ∧ M' i = M (i - 1)) → post (f_width, f_relSlots, f_emptyList, f_accRoom, f_leastInt, f_tableCount, f_maxViews, f_maxRows, f_maxMult, f_side, f_viewCount, f_pendCount, nI (c + 1), f_commits, a_rowA, a_rowB, a_rowM, a_size, a_relKind, a_relLeft, a_relRight, a_relFirst, a_relSecond, a_pendTable, a_pendA, a_pendB, a_pendN, A', B', M')) :
    ∀ d A' B' M' n, d < n → k + d ≤ c → (∀ i, i ≤ k + d → A' i = A i ∧ B' i = B i ∧ M' i = M i) → (∀ i, k + d < i → i ≤ c → A' i = A (i - 1) ∧ B' i = B (i - 1) ∧ M' i = M (i - 1)) → wX_accumulate_75 post a b m (nI k) f_width f_relSlots f_emptyList f_accRoom f_leastInt f_tableCount f_maxViews f_maxRows f_maxMult f_side f_viewCount f_pendCount (nI c) f_commits n (nI (k + d)) a_rowA a_rowB a_rowM a_size a_relKind a_relLeft a_relRight a_relFirst a_relSecond a_pendTable a_pendA a_pendB a_pendN A' B' M' := by
  intro d
  induction d with
  | zero =>
    intro A' B' M' n hn hd h1 h2
    obtain ⟨n, rfl⟩ : ∃ m, n = m + 1 := ⟨n - 1, by omega⟩
    have hi : vp_in (nI k) 576 := vp_in_nI (by omega) (by decide)
    refine br_t (nI_le (by omega) (by omega)) ?_
    rw [nI_clamp (n := k) (by omega)]
    refine ⟨hi, nm_e ⟨hi, nm_e ⟨hi, nm_e (nm_r (nI_1 _) (hp _ _ _ (fun i hi => ?_) pk_us pk_us pk_uLs (fun i hi hi2 => ?_)))⟩⟩⟩
    · rw [pk_un (by omega), pk_un (by omega), pk_uLn (by omega)]; exact h1 i (by omega)
    · rw [pk_un (by omega), pk_un (by omega), pk_uLn (by omega)]; exact h2 i (by omega) hi2
  | succ d ih =>
    intro A' B' M' n hn hd h1 h2
    obtain ⟨n, rfl⟩ : ∃ m, n = m + 1 := ⟨n - 1, by omega⟩
    refine br_f (nI_ge (by omega) (by omega)) ?_
    rw [show nI (k + (d + 1)) - 1 = nI (k + d) from nI_pred (k + d), nI_clamp (n := k + d) (by omega), nI_clamp (n := k + (d + 1)) (by omega)]
    have hi1 : vp_in (nI (k + d)) 576 := vp_in_nI (by omega) (by decide)
    have hi2 : vp_in (nI (k + (d + 1))) 576 := vp_in_nI (by omega) (by decide)
    refine ⟨hi1, hi2, nm_e ⟨hi1, hi2, nm_e ⟨hi1, hi2, nm_e (nm_r (e' := nI (k + d)) (pk_m1 (k + d)) (ih _ _ _ n (by omega) (by omega) (fun i hi => ?_) (fun i hi hi2 => ?_)))⟩⟩⟩
    · rw [pk_un (by omega), pk_un (by omega), pk_uLn (by omega)]; exact h1 i (by omega)
    · by_cases c1 : i = k + (d + 1)
      · subst c1
        rw [pk_us, pk_us, pk_uLs]
        exact h1 (k + d) (by omega)
      · rw [pk_un c1, pk_un c1, pk_uLn c1]; exact h2 i (by omega) hi2
theorem vw_ac {post : SX → Prop} {c K : Nat} {E : Int32 → Int32 → Int} {a b : Int32} {m : Int} {m' : Int64} (hm : m' = Int64.ofInt m) (h : vw_A a_accA a_accB a_accM c K E) (hK : K < 576)
    (hp : ∀ c' A' B' M', vw_A A' B' M' c' (K + 1) (fun p q => E p q + vw_d p q a b * m) → post (f_width, f_relSlots, f_emptyList, f_accRoom, f_leastInt, f_tableCount, f_maxViews, f_maxRows, f_maxMult, f_side, f_viewCount, f_pendCount, nI c', f_commits, a_rowA, a_rowB, a_rowM, a_size, a_relKind, a_relLeft, a_relRight, a_relFirst, a_relSecond, a_pendTable, a_pendA, a_pendB, a_pendN, A', B', M')) : wpX_accumulate post (f_width, f_relSlots, f_emptyList, f_accRoom, f_leastInt, f_tableCount, f_maxViews, f_maxRows, f_maxMult, f_side, f_viewCount, f_pendCount, nI c, f_commits, a_rowA, a_rowB, a_rowM, a_size, a_relKind, a_relLeft, a_relRight, a_relFirst, a_relSecond, a_pendTable, a_pendA, a_pendB, a_pendN, a_accA, a_accB, a_accM) a b m' := by
  subst hm
  have hc := h.1
  by_cases z : Int64.ofInt m = 0
  · refine br_t z (hp c _ _ _ ⟨by omega, h.2.1, fun i hi => ?_, fun p q hn => ?_⟩)
    · dsimp only
      rw [Int64.ofInt_add, Int64.ofInt_mul, z, Int64.mul_zero, Int64.add_zero]; exact h.2.2.1 i hi
    · dsimp only
      rw [Int64.ofInt_add, Int64.ofInt_mul, z, Int64.mul_zero, Int64.add_zero]; exact h.2.2.2 p q hn
  · refine br_f z (vw_ab (by omega) h.2.1 (fun k hk h1 h2 => ?_))
    have join : (∀ i, k ≤ i → i < c → vw_k a b < vw_k (a_accA i) (a_accB i)) → wX_accumulate_58 post a b (Int64.ofInt m) (nI k) f_width f_relSlots f_emptyList f_accRoom f_leastInt f_tableCount f_maxViews f_maxRows f_maxMult f_side f_viewCount f_pendCount (nI c) f_commits a_rowA a_rowB a_rowM a_size a_relKind a_relLeft a_relRight a_relFirst a_relSecond a_pendTable a_pendA a_pendB a_pendN a_accA a_accB a_accM := by
      intro h3
      refine br_t (nI_lt (b := 576) (by omega) (by decide)) ⟨c - k + 1, ?_⟩
      have l := vw_sh_loop (post := post) (A := a_accA) (B := a_accB) (M := a_accM) (c := c) (k := k) (a := a) (b := b) (m := Int64.ofInt m) (by omega) hk (fun A' B' M' g1 ga gb gm g2 => hp _ A' B' M' (vw_A_in h hk h1 h3 g1 ga gb gm g2)) (c - k) a_accA a_accB a_accM (c - k + 1) (by omega) (by omega) (fun i _ => ⟨rfl, rfl, rfl⟩) (fun i hi hi2 => absurd hi (by omega))
      rw [show k + (c - k) = c from by omega] at l
      exact l
    by_cases c1 : c ≤ k
    · exact br_t (nI_le (by omega) (by omega)) (join (fun i hi hi2 => absurd hi (by omega)))
    · refine br_f (nI_ge (by omega) (by omega)) ?_
      rw [nI_clamp (n := k) (by omega)]
      have hi : vp_in (nI k) 576 := vp_in_nI (by omega) (by decide)
      have h3 : ¬ (a_accA k = a ∧ a_accB k = b) → ∀ i, k ≤ i → i < c → vw_k a b < vw_k (a_accA i) (a_accB i) := by
        intro ne i hi hic
        have g0 := h2 k (by omega) (by omega)
        have g1 : vw_k a b ≠ vw_k (a_accA k) (a_accB k) := fun z => ne ⟨(vw_k_eq.mp z).1.symm, (vw_k_eq.mp z).2.symm⟩
        rcases Nat.eq_or_lt_of_le hi with c2 | c2
        · subst c2; omega
        · have := h.2.1 k i c2 hic; omega
      refine ⟨hi, ?_⟩
      by_cases e1 : a_accA k = a
      · refine br_t e1 ⟨hi, ?_⟩
        by_cases e2 : a_accB k = b
        · exact br_t e2 ⟨hi, hi, nm_e (hp _ _ _ _ (vw_A_up m h (by omega) e1 e2))⟩
        · exact br_f e2 (join (h3 (fun z => e2 z.2)))
      · exact br_f e1 (join (h3 (fun z => e1 z.1)))
end
theorem vw_A_list {A B : Nat → Int32} {M : Nat → Int64} {c K : Nat} {E : Int32 → Int32 → Int} (h : vw_A A B M c K E) (hb : ∀ a b, -2147483648 ≤ E a b ∧ E a b < 2147483648) :
    ∃ C : List vw_T, C.length = c ∧ vw_so C ∧ (∀ i x, C[i]? = some x → A i = x.1 ∧ B i = x.2.1 ∧ M i = Int64.ofInt x.2.2) ∧ (∀ a b, vw_v C a b = E a b) := by
  obtain ⟨h1, h2, h3, h4⟩ := h
  have hix : ∀ i x, ((List.range c).map (fun i => ((A i, B i, E (A i) (B i)) : vw_T)))[i]? = some x → i < c ∧ x = (A i, B i, E (A i) (B i)) := by
    intro i x hx
    rw [List.getElem?_map] at hx
    by_cases hi : i < c
    · rw [List.getElem?_range hi] at hx
      exact ⟨hi, (Option.some.inj hx).symm⟩
    · rw [List.getElem?_eq_none (by rw [List.length_range]; omega)] at hx
      exact absurd hx (by simp)
  have so : vw_so ((List.range c).map (fun i => ((A i, B i, E (A i) (B i)) : vw_T))) := by
    unfold vw_so
    rw [List.pairwise_map]
    refine List.Pairwise.imp_of_mem ?_ List.pairwise_lt_range
    intro i j _ hj hij
    exact h2 i j hij (List.mem_range.mp hj)
  refine ⟨(List.range c).map (fun i => (A i, B i, E (A i) (B i))), by simp, so, fun i x hx => ?_, fun a b => ?_⟩
  · obtain ⟨hi, rfl⟩ := hix i x hx
    exact ⟨rfl, rfl, h3 i hi⟩
  · rcases Classical.em (∃ i, i < c ∧ A i = a ∧ B i = b) with ⟨i, hi, rfl, rfl⟩ | hn
    · exact vw_v_in (x := (A i, B i, E (A i) (B i))) (vw_so_nd so) (List.mem_map.mpr ⟨i, List.mem_range.mpr hi, rfl⟩)
    · rw [vw_v_none (fun x hx e => ?_)]
      · have h5 := h4 a b (fun i hi z => hn ⟨i, hi, z⟩)
        have h6 := hb a b
        have h7 := congrArg Int64.toInt h5
        rw [Int64.toInt_ofInt_of_le (by omega) (by omega)] at h7
        exact h7.symm
      · obtain ⟨i, hi, rfl⟩ := List.mem_map.mp hx
        exact hn ⟨i, List.mem_range.mp hi, vw_k_eq.mp e⟩
end
section
theorem vw_l64 {x : Int32} {m : Int} (h : x.toInt = m) : x.toInt64 = Int64.ofInt m := by rw [← h]; rfl
theorem vw_len1 (P : List vw_T) (x : vw_T) : (P ++ [x]).length = P.length + 1 := by simp
theorem vw_S_cons (x : vw_T) (l : List vw_T) (g : vw_T → Int) : vw_S (x :: l) g = g x + vw_S l g := rfl
section
variable {f_width f_relSlots f_emptyList f_accRoom f_leastInt f_tableCount f_maxViews f_maxRows f_maxMult f_side f_viewCount f_pendCount f_accCount f_commits : Int32} {a_rowA a_rowB a_rowM a_size a_relKind a_relLeft a_relRight a_relFirst a_relSecond a_pendTable a_pendA a_pendB a_pendN a_accA a_accB : Nat → Int32} {a_accM : Nat → Int64}
theorem vw_st {post : Int32 → Prop} {t k a b : Int32} (h1 : vw_sat t k a b = true → post 1) (h0 : vw_sat t k a b = false → post 0) : wpX_satisfies post (f_width, f_relSlots, f_emptyList, f_accRoom, f_leastInt, f_tableCount, f_maxViews, f_maxRows, f_maxMult, f_side, f_viewCount, f_pendCount, f_accCount, f_commits, a_rowA, a_rowB, a_rowM, a_size, a_relKind, a_relLeft, a_relRight, a_relFirst, a_relSecond, a_pendTable, a_pendA, a_pendB, a_pendN, a_accA, a_accB, a_accM) t k a b := by
  have key : ∀ c : Prop, ∀ _ : Decidable c, vw_sat t k a b = decide c → (c → post 1) ∧ (¬ c → post 0) := fun c _ e => ⟨fun z => h1 (e.trans (decide_eq_true z)), fun z => h0 (e.trans (decide_eq_false z))⟩
  have dflt : t ≠ 0 → t ≠ 1 → t ≠ 2 → t ≠ 3 → t ≠ 4 → t ≠ 5 → t ≠ 6 → vw_sat t k a b = decide (a < b) := by
    intro n0 n1 n2 n3 n4 n5 n6
    unfold vw_sat
    rw [if_neg n0, if_neg n1, if_neg n2, if_neg n3, if_neg n4, if_neg n5, if_neg n6]
  by_cases c1 : t < 0
  · have e := dflt (fun z => by rw [z] at c1; exact absurd c1 (by decide)) (fun z => by rw [z] at c1; exact absurd c1 (by decide)) (fun z => by rw [z] at c1; exact absurd c1 (by decide)) (fun z => by rw [z] at c1; exact absurd c1 (by decide)) (fun z => by rw [z] at c1; exact absurd c1 (by decide)) (fun z => by rw [z] at c1; exact absurd c1 (by decide)) (fun z => by rw [z] at c1; exact absurd c1 (by decide))
    exact br_t c1 (br_c (fun l => (key _ _ e).2 (Int32.not_lt.mpr l)) (fun l => (key _ _ e).1 (Int32.not_le.mp l)))
  · refine br_f c1 ?_
    by_cases c2 : 6 < t
    · have e := dflt (fun z => by rw [z] at c2; exact absurd c2 (by decide)) (fun z => by rw [z] at c2; exact absurd c2 (by decide)) (fun z => by rw [z] at c2; exact absurd c2 (by decide)) (fun z => by rw [z] at c2; exact absurd c2 (by decide)) (fun z => by rw [z] at c2; exact absurd c2 (by decide)) (fun z => by rw [z] at c2; exact absurd c2 (by decide)) (fun z => by rw [z] at c2; exact absurd c2 (by decide))
      exact br_t c2 (br_c (fun l => (key _ _ e).2 (Int32.not_lt.mpr l)) (fun l => (key _ _ e).1 (Int32.not_le.mp l)))
    · refine br_f c2 ?_
      by_cases e0 : t = 0
      · subst e0
        exact br_t rfl (key (a = k) _ rfl)
      refine br_f e0 ?_
      by_cases e1 : t = 1
      · subst e1
        exact br_t rfl (br_c (fun l => (key (a < k) _ rfl).2 (Int32.not_lt.mpr l)) (fun l => (key (a < k) _ rfl).1 (Int32.not_le.mp l)))
      refine br_f e1 ?_
      by_cases e2 : t = 2
      · subst e2
        exact br_t rfl (br_c (fun l => (key (k < a) _ rfl).2 (Int32.not_lt.mpr l)) (fun l => (key (k < a) _ rfl).1 (Int32.not_le.mp l)))
      refine br_f e2 ?_
      by_cases e3 : t = 3
      · subst e3
        exact br_t rfl (key (b = k) _ rfl)
      refine br_f e3 ?_
      by_cases e4 : t = 4
      · subst e4
        exact br_t rfl (br_c (fun l => (key (b < k) _ rfl).2 (Int32.not_lt.mpr l)) (fun l => (key (b < k) _ rfl).1 (Int32.not_le.mp l)))
      refine br_f e4 ?_
      by_cases e5 : t = 5
      · subst e5
        exact br_t rfl (br_c (fun l => (key (k < b) _ rfl).2 (Int32.not_lt.mpr l)) (fun l => (key (k < b) _ rfl).1 (Int32.not_le.mp l)))
      refine br_f e5 ?_
      by_cases e6 : t = 6
      · subst e6
        exact br_t rfl (key (a = b) _ rfl)
      exact br_f e6 trivial
theorem vw_cl {post : Int32 → Prop} {t a b : Int32} (h : post (vw_col t a b)) : wpX_column post (f_width, f_relSlots, f_emptyList, f_accRoom, f_leastInt, f_tableCount, f_maxViews, f_maxRows, f_maxMult, f_side, f_viewCount, f_pendCount, f_accCount, f_commits, a_rowA, a_rowB, a_rowM, a_size, a_relKind, a_relLeft, a_relRight, a_relFirst, a_relSecond, a_pendTable, a_pendA, a_pendB, a_pendN, a_accA, a_accB, a_accM) t a b := by
  have dflt : t ≠ 0 → t ≠ 1 → t ≠ 2 → vw_col t a b = a + b := by
    intro n0 n1 n2
    unfold vw_col
    rw [if_neg n0, if_neg n1, if_neg n2]
  by_cases c1 : t < 0
  · rw [dflt (fun z => by rw [z] at c1; exact absurd c1 (by decide)) (fun z => by rw [z] at c1; exact absurd c1 (by decide)) (fun z => by rw [z] at c1; exact absurd c1 (by decide))] at h
    exact br_t c1 h
  · refine br_f c1 ?_
    by_cases c2 : 2 < t
    · rw [dflt (fun z => by rw [z] at c2; exact absurd c2 (by decide)) (fun z => by rw [z] at c2; exact absurd c2 (by decide)) (fun z => by rw [z] at c2; exact absurd c2 (by decide))] at h
      exact br_t c2 h
    · refine br_f c2 ?_
      by_cases e0 : t = 0
      · subst e0
        exact br_t rfl h
      refine br_f e0 ?_
      by_cases e1 : t = 1
      · subst e1
        exact br_t rfl h
      refine br_f e1 ?_
      by_cases e2 : t = 2
      · subst e2
        exact br_t rfl h
      exact br_f e2 trivial
theorem vw_cp_loop {post : SX → Prop} {L : List vw_T} {l : Nat} (hl : l < 45) (H : vw_H 24 a_rowA a_rowB a_rowM a_size l L) :
    ∀ (Q P : List vw_T) (n c K : Nat) (E : Int32 → Int32 → Int) (A B : Nat → Int32) (M : Nat → Int64), L = P ++ Q → Q.length < n → vw_A A B M c K E → K + Q.length ≤ 576 →
    (∀ c' A' B' M', vw_A A' B' M' c' (K + Q.length) (fun p q => E p q + vw_v Q p q) → post (f_width, f_relSlots, f_emptyList, f_accRoom, f_leastInt, f_tableCount, f_maxViews, f_maxRows, f_maxMult, f_side, f_viewCount, f_pendCount, nI c', f_commits, a_rowA, a_rowB, a_rowM, a_size, a_relKind, a_relLeft, a_relRight, a_relFirst, a_relSecond, a_pendTable, a_pendA, a_pendB, a_pendN, A', B', M')) →
    wX_deriveCopy_15 post (nI (l * 24)) (nI L.length) n (nI P.length) f_width f_relSlots f_emptyList f_accRoom f_leastInt f_tableCount f_maxViews f_maxRows f_maxMult f_side f_viewCount f_pendCount (nI c) f_commits a_rowA a_rowB a_rowM a_size a_relKind a_relLeft a_relRight a_relFirst a_relSecond a_pendTable a_pendA a_pendB a_pendN A B M := by
  have hw := H.2.1
  intro Q
  induction Q with
  | nil =>
    intro P n c K E A B M e hn h hK hp
    obtain ⟨n, rfl⟩ : ∃ m, n = m + 1 := ⟨n - 1, by omega⟩
    have hl1 : L.length = P.length := by rw [e, List.append_nil]
    exact br_t (nI_le (by omega) (by omega)) (hp c A B M (vw_A_eq h (by omega) (fun a b => by rw [vw_v_nil, Int.add_zero])))
  | cons x Q ih =>
    intro P n c K E A B M e hn h hK hp
    obtain ⟨n, rfl⟩ : ∃ m, n = m + 1 := ⟨n - 1, by omega⟩
    have hx : L[P.length]? = some x := by rw [e]; exact vw_mid _ _ _
    have hH := H.2.2 _ x hx
    have hlt := vw_ix hx
    rw [List.length_cons] at hn hK hp
    refine br_f (nI_ge hlt (by omega)) ?_
    rw [nI_add, nI_clamp (by omega), hH.1, hH.2.1]
    have hi : vp_in (nI (l * 24 + P.length)) 1080 := vp_in_nI (by omega) (by decide)
    refine ⟨hi, hi, hi, vw_ac (vw_l64 hH.2.2) h (by omega) (fun c' A' B' M' h' => nm_r (nI_1 _) ?_)⟩
    have g := ih (P ++ [x]) n c' (K + 1) _ A' B' M' (by rw [e]; simp) (by omega) h' (by omega) (fun c2 A2 B2 M2 h2 => hp c2 A2 B2 M2 (vw_A_eq h2 (by omega) (fun a b => by rw [vw_v_cons]; omega)))
    rw [vw_len1] at g
    exact g
theorem vw_cpy {post : SX → Prop} {L : List vw_T} {l c K : Nat} {E : Int32 → Int32 → Int} (hl : l < 45) (H : vw_H 24 a_rowA a_rowB a_rowM a_size l L) (h : vw_A a_accA a_accB a_accM c K E) (hK : K + L.length ≤ 576)
    (hp : ∀ c' A' B' M', vw_A A' B' M' c' (K + L.length) (fun p q => E p q + vw_v L p q) → post (f_width, f_relSlots, f_emptyList, f_accRoom, f_leastInt, f_tableCount, f_maxViews, f_maxRows, f_maxMult, f_side, f_viewCount, f_pendCount, nI c', f_commits, a_rowA, a_rowB, a_rowM, a_size, a_relKind, a_relLeft, a_relRight, a_relFirst, a_relSecond, a_pendTable, a_pendA, a_pendB, a_pendN, A', B', M')) : wpX_deriveCopy post (f_width, f_relSlots, f_emptyList, f_accRoom, f_leastInt, f_tableCount, f_maxViews, f_maxRows, f_maxMult, f_side, f_viewCount, f_pendCount, nI c, f_commits, a_rowA, a_rowB, a_rowM, a_size, a_relKind, a_relLeft, a_relRight, a_relFirst, a_relSecond, a_pendTable, a_pendA, a_pendB, a_pendN, a_accA, a_accB, a_accM) (nI l) := by
  have hw := H.2.1
  refine nm_r (e' := nI (l * 24)) (pk_mul l 24) ⟨vp_in_nI hl (by decide), nm_r (e' := nI L.length) ?_ ⟨L.length + 1, ?_⟩⟩
  · rw [nI_clamp (by omega)]; exact H.1
  · exact vw_cp_loop hl H L [] _ c K E _ _ _ rfl (by omega) h hK hp
theorem vw_se_loop {post : SX → Prop} {L : List vw_T} {l : Nat} {t f : Int32} (hl : l < 45) (H : vw_H 24 a_rowA a_rowB a_rowM a_size l L) :
    ∀ (Q P : List vw_T) (n c K : Nat) (E : Int32 → Int32 → Int) (A B : Nat → Int32) (M : Nat → Int64), L = P ++ Q → Q.length < n → vw_A A B M c K E → K + Q.length ≤ 576 →
    (∀ c' A' B' M', vw_A A' B' M' c' (K + Q.length) (fun p q => E p q + vw_W Q (fun x y => if vw_sat t f x y = true then vw_d p q x y else 0)) → post (f_width, f_relSlots, f_emptyList, f_accRoom, f_leastInt, f_tableCount, f_maxViews, f_maxRows, f_maxMult, f_side, f_viewCount, f_pendCount, nI c', f_commits, a_rowA, a_rowB, a_rowM, a_size, a_relKind, a_relLeft, a_relRight, a_relFirst, a_relSecond, a_pendTable, a_pendA, a_pendB, a_pendN, A', B', M')) →
    wX_deriveSelect_17 post t f (nI (l * 24)) (nI L.length) n (nI P.length) f_width f_relSlots f_emptyList f_accRoom f_leastInt f_tableCount f_maxViews f_maxRows f_maxMult f_side f_viewCount f_pendCount (nI c) f_commits a_rowA a_rowB a_rowM a_size a_relKind a_relLeft a_relRight a_relFirst a_relSecond a_pendTable a_pendA a_pendB a_pendN A B M := by
  have hw := H.2.1
  intro Q
  induction Q with
  | nil =>
    intro P n c K E A B M e hn h hK hp
    obtain ⟨n, rfl⟩ : ∃ m, n = m + 1 := ⟨n - 1, by omega⟩
    have hl1 : L.length = P.length := by rw [e, List.append_nil]
    exact br_t (nI_le (by omega) (by omega)) (hp c A B M (vw_A_eq h (by omega) (fun a b => by rw [vw_W_nil, Int.add_zero])))
  | cons x Q ih =>
    intro P n c K E A B M e hn h hK hp
    obtain ⟨n, rfl⟩ : ∃ m, n = m + 1 := ⟨n - 1, by omega⟩
    have hx : L[P.length]? = some x := by rw [e]; exact vw_mid _ _ _
    have hH := H.2.2 _ x hx
    have hlt := vw_ix hx
    rw [List.length_cons] at hn hK hp
    refine br_f (nI_ge hlt (by omega)) ?_
    rw [nI_add, nI_clamp (by omega), hH.1, hH.2.1]
    have hi : vp_in (nI (l * 24 + P.length)) 1080 := vp_in_nI (by omega) (by decide)
    refine ⟨hi, nm_e ⟨hi, nm_e (vw_st (fun s => ?_) (fun s => ?_))⟩⟩
    · refine br_f (by decide) ⟨hi, vw_ac (vw_l64 hH.2.2) h (by omega) (fun c' A' B' M' h' => nm_r (nI_1 _) ?_)⟩
      have g := ih (P ++ [x]) n c' (K + 1) _ A' B' M' (by rw [e]; simp) (by omega) h' (by omega) (fun c2 A2 B2 M2 h2 => hp c2 A2 B2 M2 (vw_A_eq h2 (by omega) (fun a b => by rw [vw_W_cons, if_pos s]; omega)))
      rw [vw_len1] at g
      exact g
    · refine br_t rfl (nm_r (nI_1 _) ?_)
      have g := ih (P ++ [x]) n c K E A B M (by rw [e]; simp) (by omega) h (by omega) (fun c2 A2 B2 M2 h2 => hp c2 A2 B2 M2 (vw_A_eq h2 (by omega) (fun a b => by rw [vw_W_cons, if_neg (by rw [s]; decide), Int.zero_mul, Int.zero_add])))
      rw [vw_len1] at g
      exact g
theorem vw_sel {post : SX → Prop} {L : List vw_T} {l c K : Nat} {t f : Int32} {E : Int32 → Int32 → Int} (hl : l < 45) (H : vw_H 24 a_rowA a_rowB a_rowM a_size l L) (h : vw_A a_accA a_accB a_accM c K E) (hK : K + L.length ≤ 576)
    (hp : ∀ c' A' B' M', vw_A A' B' M' c' (K + L.length) (fun p q => E p q + vw_W L (fun x y => if vw_sat t f x y = true then vw_d p q x y else 0)) → post (f_width, f_relSlots, f_emptyList, f_accRoom, f_leastInt, f_tableCount, f_maxViews, f_maxRows, f_maxMult, f_side, f_viewCount, f_pendCount, nI c', f_commits, a_rowA, a_rowB, a_rowM, a_size, a_relKind, a_relLeft, a_relRight, a_relFirst, a_relSecond, a_pendTable, a_pendA, a_pendB, a_pendN, A', B', M')) : wpX_deriveSelect post (f_width, f_relSlots, f_emptyList, f_accRoom, f_leastInt, f_tableCount, f_maxViews, f_maxRows, f_maxMult, f_side, f_viewCount, f_pendCount, nI c, f_commits, a_rowA, a_rowB, a_rowM, a_size, a_relKind, a_relLeft, a_relRight, a_relFirst, a_relSecond, a_pendTable, a_pendA, a_pendB, a_pendN, a_accA, a_accB, a_accM) (nI l) t f := by
  have hw := H.2.1
  refine nm_r (e' := nI (l * 24)) (pk_mul l 24) ⟨vp_in_nI hl (by decide), nm_r (e' := nI L.length) ?_ ⟨L.length + 1, ?_⟩⟩
  · rw [nI_clamp (by omega)]; exact H.1
  · exact vw_se_loop hl H L [] _ c K E _ _ _ rfl (by omega) h hK hp
theorem vw_pj_loop {post : SX → Prop} {L : List vw_T} {l : Nat} {t f : Int32} (hl : l < 45) (H : vw_H 24 a_rowA a_rowB a_rowM a_size l L) :
    ∀ (Q P : List vw_T) (n c K : Nat) (E : Int32 → Int32 → Int) (A B : Nat → Int32) (M : Nat → Int64), L = P ++ Q → Q.length < n → vw_A A B M c K E → K + Q.length ≤ 576 →
    (∀ c' A' B' M', vw_A A' B' M' c' (K + Q.length) (fun p q => E p q + vw_W Q (fun x y => vw_d p q (vw_col t x y) (vw_col f x y))) → post (f_width, f_relSlots, f_emptyList, f_accRoom, f_leastInt, f_tableCount, f_maxViews, f_maxRows, f_maxMult, f_side, f_viewCount, f_pendCount, nI c', f_commits, a_rowA, a_rowB, a_rowM, a_size, a_relKind, a_relLeft, a_relRight, a_relFirst, a_relSecond, a_pendTable, a_pendA, a_pendB, a_pendN, A', B', M')) →
    wX_deriveProject_17 post t f (nI (l * 24)) (nI L.length) n (nI P.length) f_width f_relSlots f_emptyList f_accRoom f_leastInt f_tableCount f_maxViews f_maxRows f_maxMult f_side f_viewCount f_pendCount (nI c) f_commits a_rowA a_rowB a_rowM a_size a_relKind a_relLeft a_relRight a_relFirst a_relSecond a_pendTable a_pendA a_pendB a_pendN A B M := by
  have hw := H.2.1
  intro Q
  induction Q with
  | nil =>
    intro P n c K E A B M e hn h hK hp
    obtain ⟨n, rfl⟩ : ∃ m, n = m + 1 := ⟨n - 1, by omega⟩
    have hl1 : L.length = P.length := by rw [e, List.append_nil]
    exact br_t (nI_le (by omega) (by omega)) (hp c A B M (vw_A_eq h (by omega) (fun a b => by rw [vw_W_nil, Int.add_zero])))
  | cons x Q ih =>
    intro P n c K E A B M e hn h hK hp
    obtain ⟨n, rfl⟩ : ∃ m, n = m + 1 := ⟨n - 1, by omega⟩
    have hx : L[P.length]? = some x := by rw [e]; exact vw_mid _ _ _
    have hH := H.2.2 _ x hx
    have hlt := vw_ix hx
    rw [List.length_cons] at hn hK hp
    refine br_f (nI_ge hlt (by omega)) ?_
    rw [nI_add, nI_clamp (by omega), hH.1, hH.2.1]
    have hi : vp_in (nI (l * 24 + P.length)) 1080 := vp_in_nI (by omega) (by decide)
    refine ⟨hi, hi, vw_cl ⟨hi, hi, vw_cl ⟨hi, vw_ac (vw_l64 hH.2.2) h (by omega) (fun c' A' B' M' h' => nm_r (nI_1 _) ?_)⟩⟩⟩
    have g := ih (P ++ [x]) n c' (K + 1) _ A' B' M' (by rw [e]; simp) (by omega) h' (by omega) (fun c2 A2 B2 M2 h2 => hp c2 A2 B2 M2 (vw_A_eq h2 (by omega) (fun a b => by rw [vw_W_cons]; omega)))
    rw [vw_len1] at g
    exact g
theorem vw_prj {post : SX → Prop} {L : List vw_T} {l c K : Nat} {t f : Int32} {E : Int32 → Int32 → Int} (hl : l < 45) (H : vw_H 24 a_rowA a_rowB a_rowM a_size l L) (h : vw_A a_accA a_accB a_accM c K E) (hK : K + L.length ≤ 576)
    (hp : ∀ c' A' B' M', vw_A A' B' M' c' (K + L.length) (fun p q => E p q + vw_W L (fun x y => vw_d p q (vw_col t x y) (vw_col f x y))) → post (f_width, f_relSlots, f_emptyList, f_accRoom, f_leastInt, f_tableCount, f_maxViews, f_maxRows, f_maxMult, f_side, f_viewCount, f_pendCount, nI c', f_commits, a_rowA, a_rowB, a_rowM, a_size, a_relKind, a_relLeft, a_relRight, a_relFirst, a_relSecond, a_pendTable, a_pendA, a_pendB, a_pendN, A', B', M')) : wpX_deriveProject post (f_width, f_relSlots, f_emptyList, f_accRoom, f_leastInt, f_tableCount, f_maxViews, f_maxRows, f_maxMult, f_side, f_viewCount, f_pendCount, nI c, f_commits, a_rowA, a_rowB, a_rowM, a_size, a_relKind, a_relLeft, a_relRight, a_relFirst, a_relSecond, a_pendTable, a_pendA, a_pendB, a_pendN, a_accA, a_accB, a_accM) (nI l) t f := by
  have hw := H.2.1
  refine nm_r (e' := nI (l * 24)) (pk_mul l 24) ⟨vp_in_nI hl (by decide), nm_r (e' := nI L.length) ?_ ⟨L.length + 1, ?_⟩⟩
  · rw [nI_clamp (by omega)]; exact H.1
  · exact vw_pj_loop hl H L [] _ c K E _ _ _ rfl (by omega) h hK hp
end
end
section
theorem vw_pr {G : List vw_T} {y : Int32} (hG : ∀ z, z ∈ G → z.1 = y) (p q x : Int32) (m : Int) : vw_S G (fun z => vw_d p q x z.2.1 * (m * z.2.2)) = (if x = p then vw_S G (fun z => vw_d y q z.1 z.2.1 * z.2.2) else 0) * m := by
  by_cases c : x = p
  · rw [if_pos c, Int.mul_comm, ← vw_S_mul]
    refine vw_S_congr (fun z hz => ?_)
    have e : vw_d p q x z.2.1 = vw_d y q z.1 z.2.1 := by
      unfold vw_d
      rw [c, hG z hz]
      simp
    rw [e, Int.mul_left_comm]
  · rw [if_neg c, Int.zero_mul]
    exact vw_S_zero (fun z hz => by rw [vw_d_0 (fun n => c n.1), Int.zero_mul])
section
variable {f_width f_relSlots f_emptyList f_accRoom f_leastInt f_tableCount f_maxViews f_maxRows f_maxMult f_side f_viewCount f_pendCount f_accCount f_commits : Int32} {a_rowA a_rowB a_rowM a_size a_relKind a_relLeft a_relRight a_relFirst a_relSecond a_pendTable a_pendA a_pendB a_pendN a_accA a_accB : Nat → Int32} {a_accM : Nat → Int64}
theorem vw_pi_loop {post : SX → Prop} {J : Int32 → Int32 → Int32 → Int32 → Int32 → Int32 → Int32 → Int32 → Int32 → Int32 → Int32 → Int32 → Int32 → Int32 → Int32 → (Nat → Int32) → (Nat → Int32) → (Nat → Int32) → (Nat → Int32) → (Nat → Int32) → (Nat → Int32) → (Nat → Int32) → (Nat → Int32) → (Nat → Int32) → (Nat → Int32) → (Nat → Int32) → (Nat → Int32) → (Nat → Int32) → (Nat → Int32) → (Nat → Int32) → (Nat → Int64) → Prop} {R S : List vw_T} {r i : Nat} {x2 x3 x5 x7 : Int32} {mx : Int} (hr : r < 45) (H : vw_H 24 a_rowA a_rowB a_rowM a_size r R) :
    ∀ (G P : List vw_T) (n c K t : Nat) (E : Int32 → Int32 → Int) (A B : Nat → Int32) (M : Nat → Int64), R = P ++ (G ++ S) → t = P.length + G.length → G.length < n → vw_A A B M c K E → K + G.length ≤ 576 →
    (∀ c' A' B' M', vw_A A' B' M' c' (K + G.length) (fun p q => E p q + vw_S G (fun z => vw_d p q x7 z.2.1 * (mx * z.2.2))) → J (nI (i + 1)) f_width f_relSlots f_emptyList f_accRoom f_leastInt f_tableCount f_maxViews f_maxRows f_maxMult f_side f_viewCount f_pendCount (nI c') f_commits a_rowA a_rowB a_rowM a_size a_relKind a_relLeft a_relRight a_relFirst a_relSecond a_pendTable a_pendA a_pendB a_pendN A' B' M') →
    wX_deriveProduct_89 post J x2 x3 (nI (r * 24)) x5 (nI i) x7 (Int64.ofInt mx) (nI t) n (nI P.length) f_width f_relSlots f_emptyList f_accRoom f_leastInt f_tableCount f_maxViews f_maxRows f_maxMult f_side f_viewCount f_pendCount (nI c) f_commits a_rowA a_rowB a_rowM a_size a_relKind a_relLeft a_relRight a_relFirst a_relSecond a_pendTable a_pendA a_pendB a_pendN A B M := by
  have hw := H.2.1
  intro G
  induction G with
  | nil =>
    intro P n c K t E A B M e ht hn h hK hp
    obtain ⟨n, rfl⟩ : ∃ m, n = m + 1 := ⟨n - 1, by omega⟩
    have hl1 : P.length ≤ R.length := by rw [e, List.length_append]; omega
    rw [List.length_nil] at ht
    exact br_t (nI_le (by omega) (by omega)) (nm_r (nI_1 _) (hp c A B M (vw_A_eq h (by omega) (fun a b => Int.add_zero _))))
  | cons x G ih =>
    intro P n c K t E A B M e ht hn h hK hp
    obtain ⟨n, rfl⟩ : ∃ m, n = m + 1 := ⟨n - 1, by omega⟩
    have hx : R[P.length]? = some x := by rw [e]; exact vw_mid _ _ _
    have hH := H.2.2 _ x hx
    have hlt := vw_ix hx
    have hl1 : R.length = P.length + (G.length + 1 + S.length) := by rw [e]; simp; omega
    rw [List.length_cons] at hn hK hp ht
    refine br_f (nI_ge (by omega) (by omega)) ?_
    rw [nI_add, nI_clamp (by omega), hH.2.1]
    have hi : vp_in (nI (r * 24 + P.length)) 1080 := vp_in_nI (by omega) (by decide)
    refine ⟨hi, hi, vw_ac (m := mx * x.2.2) (by rw [Int64.ofInt_mul, vw_l64 hH.2.2]) h (by omega) (fun c' A' B' M' h' => nm_r (nI_1 _) ?_)⟩
    have g := ih (P ++ [x]) n c' (K + 1) t _ A' B' M' (by rw [e]; simp) (by rw [vw_len1]; omega) (by omega) h' (by omega) (fun c2 A2 B2 M2 h2 => hp c2 A2 B2 M2 (vw_A_eq h2 (by omega) (fun a b => by rw [vw_S_cons]; omega)))
    rw [vw_len1] at g
    exact g
theorem vw_po_loop {post : SX → Prop} {L R : List vw_T} {l r : Nat} (hl : l < 45) (hr : r < 45) (H : vw_H 24 a_rowA a_rowB a_rowM a_size l L) (HR : vw_H 24 a_rowA a_rowB a_rowM a_size r R) (so : vw_so R) :
    ∀ (Q P : List vw_T) (n c K : Nat) (E : Int32 → Int32 → Int) (A B : Nat → Int32) (M : Nat → Int64), L = P ++ Q → Q.length < n → vw_A A B M c K E → K + Q.length * R.length ≤ 576 →
    (∀ c' A' B' M', vw_A A' B' M' c' (K + Q.length * R.length) (fun p q => E p q + vw_W Q (fun x y => if x = p then vw_v R y q else 0)) → post (f_width, f_relSlots, f_emptyList, f_accRoom, f_leastInt, f_tableCount, f_maxViews, f_maxRows, f_maxMult, f_side, f_viewCount, f_pendCount, nI c', f_commits, a_rowA, a_rowB, a_rowM, a_size, a_relKind, a_relLeft, a_relRight, a_relFirst, a_relSecond, a_pendTable, a_pendA, a_pendB, a_pendN, A', B', M')) →
    wX_deriveProduct_22 post (nI r) (nI (l * 24)) (nI (r * 24)) (nI L.length) n (nI P.length) f_width f_relSlots f_emptyList f_accRoom f_leastInt f_tableCount f_maxViews f_maxRows f_maxMult f_side f_viewCount f_pendCount (nI c) f_commits a_rowA a_rowB a_rowM a_size a_relKind a_relLeft a_relRight a_relFirst a_relSecond a_pendTable a_pendA a_pendB a_pendN A B M := by
  have hw := H.2.1
  intro Q
  induction Q with
  | nil =>
    intro P n c K E A B M e hn h hK hp
    obtain ⟨n, rfl⟩ : ∃ m, n = m + 1 := ⟨n - 1, by omega⟩
    have hl1 : L.length = P.length := by rw [e, List.append_nil]
    exact br_t (nI_le (by omega) (by omega)) (hp c A B M (vw_A_eq h (by omega) (fun a b => by rw [vw_W_nil, Int.add_zero])))
  | cons x Q ih =>
    intro P n c K E A B M e hn h hK hp
    obtain ⟨n, rfl⟩ : ∃ m, n = m + 1 := ⟨n - 1, by omega⟩
    have hx : L[P.length]? = some x := by rw [e]; exact vw_mid _ _ _
    have hH := H.2.2 _ x hx
    have hlt := vw_ix hx
    rw [List.length_cons] at hn hK hp
    rw [Nat.add_mul, Nat.one_mul] at hK hp
    refine br_f (nI_ge hlt (by omega)) ?_
    rw [nI_add, nI_clamp (by omega), hH.1, hH.2.1]
    have hi : vp_in (nI (l * 24 + P.length)) 1080 := vp_in_nI (by omega) (by decide)
    refine ⟨hi, nm_e ⟨hi, nm_e ⟨hi, nm_r (vw_l64 hH.2.2) (vw_lb hr HR so (fun R1 R2 eR g1 g2 => vw_ge hr HR eR (fun G S eG hG hS => ?_)))⟩⟩⟩
    subst eG
    have gg := vw_grp (y := x.2.1) (by rw [← eR]; exact so) g1 g2 hS
    have hle : G.length ≤ R.length := by rw [eR]; simp; omega
    refine ⟨G.length + 1, vw_pi_loop (S := S) hr HR G R1 _ c K _ E A B M eR rfl (by omega) h (by omega) (fun c' A' B' M' h' => ?_)⟩
    have ec : ∀ p q, vw_S G (fun z => vw_d p q x.1 z.2.1 * (x.2.2 * z.2.2)) = (if x.1 = p then vw_v R x.2.1 q else 0) * x.2.2 := by
      intro p q
      rw [vw_pr hG]
      have e2 : vw_v R x.2.1 q = vw_S G (fun z => vw_d x.2.1 q z.1 z.2.1 * z.2.2) := by
        rw [eR]
        exact vw_grp_S gg.1 gg.2 (fun z hz => by rw [vw_d_0 (fun n => hz n.1), Int.zero_mul])
      rw [e2]
    have g := ih (P ++ [x]) n c' (K + R.length) _ A' B' M' (by rw [e]; simp) (by omega) (vw_A_eq h' (by omega) (fun p q => rfl)) (by omega) (fun c2 A2 B2 M2 h2 => hp c2 A2 B2 M2 (vw_A_eq h2 (by omega) (fun a b => by rw [vw_W_cons, ec]; omega)))
    rw [vw_len1] at g
    exact g
theorem vw_prod {post : SX → Prop} {L R : List vw_T} {l r c K : Nat} {E : Int32 → Int32 → Int} (hl : l < 45) (hr : r < 45) (H : vw_H 24 a_rowA a_rowB a_rowM a_size l L) (HR : vw_H 24 a_rowA a_rowB a_rowM a_size r R) (so : vw_so R) (h : vw_A a_accA a_accB a_accM c K E) (hK : K + L.length * R.length ≤ 576)
    (hp : ∀ c' A' B' M', vw_A A' B' M' c' (K + L.length * R.length) (fun p q => E p q + vw_W L (fun x y => if x = p then vw_v R y q else 0)) → post (f_width, f_relSlots, f_emptyList, f_accRoom, f_leastInt, f_tableCount, f_maxViews, f_maxRows, f_maxMult, f_side, f_viewCount, f_pendCount, nI c', f_commits, a_rowA, a_rowB, a_rowM, a_size, a_relKind, a_relLeft, a_relRight, a_relFirst, a_relSecond, a_pendTable, a_pendA, a_pendB, a_pendN, A', B', M')) : wpX_deriveProduct post (f_width, f_relSlots, f_emptyList, f_accRoom, f_leastInt, f_tableCount, f_maxViews, f_maxRows, f_maxMult, f_side, f_viewCount, f_pendCount, nI c, f_commits, a_rowA, a_rowB, a_rowM, a_size, a_relKind, a_relLeft, a_relRight, a_relFirst, a_relSecond, a_pendTable, a_pendA, a_pendB, a_pendN, a_accA, a_accB, a_accM) (nI l) (nI r) := by
  have hw := H.2.1
  refine nm_r (e' := nI (l * 24)) (pk_mul l 24) (nm_r (e' := nI (r * 24)) (pk_mul r 24) ⟨vp_in_nI hl (by decide), nm_r (e' := nI L.length) ?_ ⟨L.length + 1, ?_⟩⟩)
  · rw [nI_clamp (by omega)]; exact H.1
  · exact vw_po_loop hl hr H HR so L [] _ c K E _ _ _ rfl (by omega) h hK hp
end
theorem vw_i32sub {x y : Int32} (h1 : 0 ≤ x.toInt) (h2 : 0 ≤ y.toInt) : (x - y).toInt = x.toInt - y.toInt := by
  have h3 := x.toInt_lt
  have h4 := y.toInt_lt
  rw [Int32.toInt_sub]
  exact Int.bmod_eq_of_le (by omega) (by omega)
def vw_f5 (L R : List vw_T) (a b : Int32) : Int := if vw_v R a b < vw_v L a b then vw_v L a b - vw_v R a b else 0
def vw_out (N : List vw_T) (x : vw_T) : Prop := ∀ y, y ∈ N → ¬ (y.1 = x.1 ∧ y.2.1 = x.2.1)
section
variable {f_width f_relSlots f_emptyList f_accRoom f_leastInt f_tableCount f_maxViews f_maxRows f_maxMult f_side f_viewCount f_pendCount f_accCount f_commits : Int32} {a_rowA a_rowB a_rowM a_size a_relKind a_relLeft a_relRight a_relFirst a_relSecond a_pendTable a_pendA a_pendB a_pendN a_accA a_accB : Nat → Int32} {a_accM : Nat → Int64}
theorem vw_df_loop {post : SX → Prop} {D N L R O : List vw_T} {d n' l r o Mx : Nat} (hM : Mx ≤ 9999) (hd : d < 45) (hn : n' < 45) (hl : l < 45) (hr : r < 45) (ho : o < 45)
    (HD : vw_H 24 a_rowA a_rowB a_rowM a_size d D) (HN : vw_H 24 a_rowA a_rowB a_rowM a_size n' N) (HL : vw_H 24 a_rowA a_rowB a_rowM a_size l L) (HR : vw_H 24 a_rowA a_rowB a_rowM a_size r R) (HO : vw_H 24 a_rowA a_rowB a_rowM a_size o O)
    (sN : vw_so N) (sL : vw_so L) (sR : vw_so R) (sO : vw_so O) (bL : vw_bg L Mx) (bR : vw_bg R Mx) (bO : vw_bg O Mx) :
    ∀ (Q P : List vw_T) (n c K : Nat) (E : Int32 → Int32 → Int) (A B : Nat → Int32) (M : Nat → Int64), D = P ++ Q → Q.length < n → vw_A A B M c K E → K + Q.length ≤ 576 →
    (∀ c' A' B' M', vw_A A' B' M' c' (K + Q.length) (fun p q => E p q + vw_S Q (fun x => vw_b (vw_out N x) * (vw_d p q x.1 x.2.1 * (vw_f5 L R x.1 x.2.1 - vw_v O x.1 x.2.1)))) → post (f_width, f_relSlots, f_emptyList, f_accRoom, f_leastInt, f_tableCount, f_maxViews, f_maxRows, f_maxMult, f_side, f_viewCount, f_pendCount, nI c', f_commits, a_rowA, a_rowB, a_rowM, a_size, a_relKind, a_relLeft, a_relRight, a_relFirst, a_relSecond, a_pendTable, a_pendA, a_pendB, a_pendN, A', B', M')) →
    wX_deriveDifference_17 post (nI n') (nI l) (nI r) (nI o) (nI (d * 24)) (nI D.length) n (nI P.length) f_width f_relSlots f_emptyList f_accRoom f_leastInt f_tableCount f_maxViews f_maxRows f_maxMult f_side f_viewCount f_pendCount (nI c) f_commits a_rowA a_rowB a_rowM a_size a_relKind a_relLeft a_relRight a_relFirst a_relSecond a_pendTable a_pendA a_pendB a_pendN A B M := by
  have hw := HD.2.1
  intro Q
  induction Q with
  | nil =>
    intro P n c K E A B M e hn h hK hp
    obtain ⟨n, rfl⟩ : ∃ m, n = m + 1 := ⟨n - 1, by omega⟩
    have hl1 : D.length = P.length := by rw [e, List.append_nil]
    exact br_t (nI_le (by omega) (by omega)) (hp c A B M (vw_A_eq h (by omega) (fun a b => Int.add_zero _)))
  | cons x Q ih =>
    intro P n c K E A B M e hn h hK hp
    obtain ⟨n, rfl⟩ : ∃ m, n = m + 1 := ⟨n - 1, by omega⟩
    have hx : D[P.length]? = some x := by rw [e]; exact vw_mid _ _ _
    have hH := HD.2.2 _ x hx
    have hlt := vw_ix hx
    rw [List.length_cons] at hn hK hp
    refine br_f (nI_ge hlt (by omega)) ?_
    rw [nI_add, nI_clamp (by omega), hH.1, hH.2.1]
    have hi : vp_in (nI (d * 24 + P.length)) 1080 := vp_in_nI (by omega) (by decide)
    refine ⟨hi, nm_e ⟨hi, nm_e (vw_ct ‹n' < 45› HN sN (fun s => ?_) (fun s => ?_))⟩⟩
    · refine br_f (by decide) (nm_r (nI_1 _) ?_)
      have no : ¬ vw_out N x := fun z => by obtain ⟨y, hy, hyx⟩ := s; exact z y hy hyx
      have g := ih (P ++ [x]) n c K E A B M (by rw [e]; simp) (by omega) h (by omega) (fun c2 A2 B2 M2 h2 => hp c2 A2 B2 M2 (vw_A_eq h2 (by omega) (fun a b => by rw [vw_S_cons, vw_b_f no, Int.zero_mul, Int.zero_add])))
      rw [vw_len1] at g
      exact g
    · refine br_t rfl (vw_vi hl HL sL (fun r1 e1 => vw_vi hr HR sR (fun r2 e2 => vw_vi ho HO sO (fun r3 e3 => ?_))))
      have v1 := vw_bg_v bL x.1 x.2.1
      have v2 := vw_bg_v bR x.1 x.2.1
      have v3 := vw_bg_v bO x.1 x.2.1
      have fin : ∀ z0 : Int32, z0.toInt = vw_f5 L R x.1 x.2.1 → wpX_accumulate (fun u => match u with | (f_width, f_relSlots, f_emptyList, f_accRoom, f_leastInt, f_tableCount, f_maxViews, f_maxRows, f_maxMult, f_side, f_viewCount, f_pendCount, f_accCount, f_commits, a_rowA, a_rowB, a_rowM, a_size, a_relKind, a_relLeft, a_relRight, a_relFirst, a_relSecond, a_pendTable, a_pendA, a_pendB, a_pendN, a_accA, a_accB, a_accM) => ∀ x8_167 : Int32, x8_167 = nI P.length + 1 → wX_deriveDifference_17 post (nI n') (nI l) (nI r) (nI o) (nI (d * 24)) (nI D.length) n x8_167 f_width f_relSlots f_emptyList f_accRoom f_leastInt f_tableCount f_maxViews f_maxRows f_maxMult f_side f_viewCount f_pendCount f_accCount f_commits a_rowA a_rowB a_rowM a_size a_relKind a_relLeft a_relRight a_relFirst a_relSecond a_pendTable a_pendA a_pendB a_pendN a_accA a_accB a_accM) (f_width, f_relSlots, f_emptyList, f_accRoom, f_leastInt, f_tableCount, f_maxViews, f_maxRows, f_maxMult, f_side, f_viewCount, f_pendCount, nI c, f_commits, a_rowA, a_rowB, a_rowM, a_size, a_relKind, a_relLeft, a_relRight, a_relFirst, a_relSecond, a_pendTable, a_pendA, a_pendB, a_pendN, A, B, M) x.1 x.2.1 ((z0 - r3).toInt64) := by
        intro z0 ez
        have nn : 0 ≤ z0.toInt := by rw [ez]; unfold vw_f5; split <;> omega
        refine vw_ac (vw_l64 (vw_i32sub nn (by omega))) h (by omega) (fun c' A' B' M' h' => nm_r (nI_1 _) ?_)
        have g := ih (P ++ [x]) n c' (K + 1) _ A' B' M' (by rw [e]; simp) (by omega) h' (by omega) (fun c2 A2 B2 M2 h2 => hp c2 A2 B2 M2 (vw_A_eq h2 (by omega) (fun a b => by rw [vw_S_cons, vw_b_t (P := vw_out N x) s, Int.one_mul, ez, e3]; omega)))
        rw [vw_len1] at g
        exact g
      refine br_c (fun lt => ?_) (fun lt => ?_)
      · refine fin 0 ?_
        rw [Int32.le_iff_toInt_le, e1, e2] at lt
        unfold vw_f5
        rw [if_neg (by omega)]
        rfl
      · refine fin (r1 - r2) ?_
        rw [Int32.le_iff_toInt_le, e1, e2] at lt
        rw [vw_i32sub (by omega) (by omega), e1, e2]
        unfold vw_f5
        rw [if_pos (by omega)]
theorem vw_dif {post : SX → Prop} {D N L R O : List vw_T} {d n' l r o Mx c K : Nat} {E : Int32 → Int32 → Int} (hM : Mx ≤ 9999) (hd : d < 45) (hn : n' < 45) (hl : l < 45) (hr : r < 45) (ho : o < 45)
    (HD : vw_H 24 a_rowA a_rowB a_rowM a_size d D) (HN : vw_H 24 a_rowA a_rowB a_rowM a_size n' N) (HL : vw_H 24 a_rowA a_rowB a_rowM a_size l L) (HR : vw_H 24 a_rowA a_rowB a_rowM a_size r R) (HO : vw_H 24 a_rowA a_rowB a_rowM a_size o O)
    (sN : vw_so N) (sL : vw_so L) (sR : vw_so R) (sO : vw_so O) (bL : vw_bg L Mx) (bR : vw_bg R Mx) (bO : vw_bg O Mx) (h : vw_A a_accA a_accB a_accM c K E) (hK : K + D.length ≤ 576)
    (hp : ∀ c' A' B' M', vw_A A' B' M' c' (K + D.length) (fun p q => E p q + vw_S D (fun x => vw_b (vw_out N x) * (vw_d p q x.1 x.2.1 * (vw_f5 L R x.1 x.2.1 - vw_v O x.1 x.2.1)))) → post (f_width, f_relSlots, f_emptyList, f_accRoom, f_leastInt, f_tableCount, f_maxViews, f_maxRows, f_maxMult, f_side, f_viewCount, f_pendCount, nI c', f_commits, a_rowA, a_rowB, a_rowM, a_size, a_relKind, a_relLeft, a_relRight, a_relFirst, a_relSecond, a_pendTable, a_pendA, a_pendB, a_pendN, A', B', M')) :
    wpX_deriveDifference post (f_width, f_relSlots, f_emptyList, f_accRoom, f_leastInt, f_tableCount, f_maxViews, f_maxRows, f_maxMult, f_side, f_viewCount, f_pendCount, nI c, f_commits, a_rowA, a_rowB, a_rowM, a_size, a_relKind, a_relLeft, a_relRight, a_relFirst, a_relSecond, a_pendTable, a_pendA, a_pendB, a_pendN, a_accA, a_accB, a_accM) (nI d) (nI n') (nI l) (nI r) (nI o) := by
  have hw := HD.2.1
  refine nm_r (e' := nI (d * 24)) (pk_mul d 24) ⟨vp_in_nI hd (by decide), nm_r (e' := nI D.length) ?_ ⟨D.length + 1, ?_⟩⟩
  · rw [nI_clamp (by omega)]; exact HD.1
  · exact vw_df_loop hM hd hn hl hr ho HD HN HL HR HO sN sL sR sO bL bR bO D [] _ c K E _ _ _ rfl (by omega) h hK hp
end
theorem vw_df_1 {D : List vw_T} (nd : vw_nd D) {g : Int32 → Int32 → Int} {P : vw_T → Prop} (p q : Int32) : (∀ x, x ∈ D → x.1 = p → x.2.1 = q → ¬ P x) → vw_S D (fun x => vw_b (P x) * (vw_d p q x.1 x.2.1 * g x.1 x.2.1)) = 0 := by
  intro hn
  refine vw_S_zero (fun x hx => ?_)
  by_cases c : x.1 = p ∧ x.2.1 = q
  · rw [vw_b_f (hn x hx c.1 c.2), Int.zero_mul]
  · rw [vw_d_0 c, Int.zero_mul, Int.mul_zero]
theorem vw_df_2 {D : List vw_T} (nd : vw_nd D) {g : Int32 → Int32 → Int} {P : vw_T → Prop} {p q : Int32} : (∃ x, x ∈ D ∧ x.1 = p ∧ x.2.1 = q) → (∀ x, x ∈ D → x.1 = p → x.2.1 = q → P x) → vw_S D (fun x => vw_b (P x) * (vw_d p q x.1 x.2.1 * g x.1 x.2.1)) = g p q := by
  intro hx hn
  induction D with
  | nil => obtain ⟨x, hx, _⟩ := hx; exact absurd hx List.not_mem_nil
  | cons y D ih =>
    have nd' := List.pairwise_cons.mp nd
    rw [vw_S_cons]
    by_cases c : y.1 = p ∧ y.2.1 = q
    · rw [vw_S_zero (fun x hx => by
        rw [vw_d_k (fun z => nd'.1 x hx ((vw_k_eq.mpr c).trans z.symm)), Int.zero_mul, Int.mul_zero])]
      rw [vw_b_t (hn y List.mem_cons_self c.1 c.2), c.1, c.2, vw_d_1, Int.one_mul, Int.one_mul, Int.add_zero]
    · rw [vw_d_0 c, Int.zero_mul, Int.mul_zero, Int.zero_add]
      obtain ⟨x, hx, h1, h2⟩ := hx
      rcases List.mem_cons.mp hx with rfl | hx
      · exact absurd ⟨h1, h2⟩ c
      · exact ih nd'.2 ⟨x, hx, h1, h2⟩ (fun x hx => hn x (List.mem_cons_of_mem _ hx))
theorem vw_df_3 {oL nL dL oR nR dR O : List vw_T} {t f : Int32} (hL : ∀ a b, vw_v nL a b = vw_v oL a b + vw_v dL a b) (hR : ∀ a b, vw_v nR a b = vw_v oR a b + vw_v dR a b) (ndL : vw_nd dL) (ndR : vw_nd dR) (hO : ∀ a b, vw_v O a b = vw_F 5 t f oL oR a b) (p q : Int32) :
    vw_S dL (fun x => vw_b (vw_out [] x) * (vw_d p q x.1 x.2.1 * (vw_f5 nL nR x.1 x.2.1 - vw_v O x.1 x.2.1))) + vw_S dR (fun x => vw_b (vw_out dL x) * (vw_d p q x.1 x.2.1 * (vw_f5 nL nR x.1 x.2.1 - vw_v O x.1 x.2.1))) = vw_F 5 t f nL nR p q - vw_F 5 t f oL oR p q := by
  have e0 : vw_F 5 t f nL nR p q - vw_F 5 t f oL oR p q = vw_f5 nL nR p q - vw_v O p q := by rw [hO]; rfl
  rw [e0]
  rcases Classical.em (∃ x, x ∈ dL ∧ x.1 = p ∧ x.2.1 = q) with c | c
  · rw [vw_df_2 (g := fun a b => vw_f5 nL nR a b - vw_v O a b) (P := vw_out []) ndL c (fun x _ _ _ y hy => absurd hy List.not_mem_nil)]
    rw [vw_df_1 (g := fun a b => vw_f5 nL nR a b - vw_v O a b) (P := vw_out dL) ndR p q (fun x hx h1 h2 ho => by
      obtain ⟨y, hy, g1, g2⟩ := c
      exact ho y hy ⟨g1.trans h1.symm, g2.trans h2.symm⟩), Int.add_zero]
  · rw [vw_df_1 (g := fun a b => vw_f5 nL nR a b - vw_v O a b) (P := vw_out []) ndL p q (fun x hx h1 h2 => absurd ⟨x, hx, h1, h2⟩ c), Int.zero_add]
    rcases Classical.em (∃ x, x ∈ dR ∧ x.1 = p ∧ x.2.1 = q) with c2 | c2
    · exact vw_df_2 (g := fun a b => vw_f5 nL nR a b - vw_v O a b) (P := vw_out dL) ndR c2 (fun x _ h1 h2 y hy z => c ⟨y, hy, z.1.trans h1, z.2.trans h2⟩)
    · rw [vw_df_1 (g := fun a b => vw_f5 nL nR a b - vw_v O a b) (P := vw_out dL) ndR p q (fun x hx h1 h2 => absurd ⟨x, hx, h1, h2⟩ c2)]
      have z1 : vw_v dL p q = 0 := vw_v_none (fun x hx e => c ⟨x, hx, vw_k_eq.mp e⟩)
      have z2 : vw_v dR p q = 0 := vw_v_none (fun x hx e => c2 ⟨x, hx, vw_k_eq.mp e⟩)
      have g1 := hL p q
      have g2 := hR p q
      rw [hO, vw_F5]
      unfold vw_f5
      rw [show vw_v nL p q = vw_v oL p q from by omega, show vw_v nR p q = vw_v oR p q from by omega]
      omega
end
section
section
variable {f_width f_relSlots f_emptyList f_accRoom f_leastInt f_tableCount f_maxViews f_maxRows f_maxMult f_side f_viewCount f_pendCount f_accCount f_commits : Int32} {a_rowA a_rowB a_rowM a_size a_relKind a_relLeft a_relRight a_relFirst a_relSecond a_pendTable a_pendA a_pendB a_pendN a_accA a_accB : Nat → Int32} {a_accM : Nat → Int64}
theorem vw_rg2 {post : SX → Prop} {L : List vw_T} {l c K : Nat} {k a : Int32} {E : Int32 → Int32 → Int} (hk : k = 6 ∨ k = 7 ∨ k = 8 ∨ k = 9) (hl : l < 45) (H : vw_H 24 a_rowA a_rowB a_rowM a_size l L) (so : vw_so L) (h : vw_A a_accA a_accB a_accM c K E) (hK : K < 576)
    (hp : ∀ c' A' B' M', vw_A A' B' M' c' (K + 1) (fun p q => E p q + (if p = a then vw_b (vw_G k L a q) else 0)) → post (f_width, f_relSlots, f_emptyList, f_accRoom, f_leastInt, f_tableCount, f_maxViews, f_maxRows, f_maxMult, f_side, f_viewCount, f_pendCount, nI c', f_commits, a_rowA, a_rowB, a_rowM, a_size, a_relKind, a_relLeft, a_relRight, a_relFirst, a_relSecond, a_pendTable, a_pendA, a_pendB, a_pendN, A', B', M')) :
    wX_regroup_59 post k a (nI l) f_width f_relSlots f_emptyList f_accRoom f_leastInt f_tableCount f_maxViews f_maxRows f_maxMult f_side f_viewCount f_pendCount (nI c) f_commits a_rowA a_rowB a_rowM a_size a_relKind a_relLeft a_relRight a_relFirst a_relSecond a_pendTable a_pendA a_pendB a_pendN a_accA a_accB a_accM := by
  have hw := H.2.1
  unfold wX_regroup_59
  refine vw_lb hl H so (fun L1 L2 e g1 g2 => vw_ge hl H e (fun G S eG hG hS => ?_))
  subst eG
  have gg := vw_grp (y := a) (by rw [← e]; exact so) g1 g2 hS
  have hle : L.length = L1.length + (G.length + S.length) := by rw [e]; simp
  by_cases c1 : G = []
  · subst c1
    refine br_t (nI_le (by rw [List.length_nil]; omega) (by omega)) (hp c _ _ _ (vw_A_eq h (by omega) (fun p q => ?_)))
    have n : ¬ vw_G k L a q := by
      intro z
      obtain ⟨⟨z, hz, ha⟩, _⟩ := z
      rw [e] at hz
      rcases List.mem_append.mp hz with hz | hz
      · exact gg.1 z hz ha
      · exact gg.2 z hz ha
    rw [vw_b_f n]
    split <;> omega
  · have hg0 : 0 < G.length := List.length_pos_iff.mpr c1
    refine br_f (nI_ge (by omega) (by omega)) (vw_gv hk hl H so e gg.1 hG gg.2 c1 (fun r hr => vw_ac (m := 1) rfl h hK (fun c' A' B' M' h' => hp c' A' B' M' (vw_A_eq h' (by omega) (fun p q => ?_)))))
    by_cases c2 : p = a
    · rw [if_pos c2, c2]
      by_cases c3 : q = r
      · rw [c3, vw_d_1, vw_b_t hr]; rfl
      · rw [vw_d_0 (fun z => c3 z.2.symm), vw_b_f (fun z => c3 (vw_G_u hk z hr))]; rfl
    · rw [if_neg c2, vw_d_0 (fun z => c2 z.1.symm)]; rfl
theorem vw_rg {post : SX → Prop} {L O oL : List vw_T} {l o c K : Nat} {k a : Int32} {E : Int32 → Int32 → Int} (hk : k = 6 ∨ k = 7 ∨ k = 8 ∨ k = 9) (hl : l < 45) (ho : o < 45) (H : vw_H 24 a_rowA a_rowB a_rowM a_size l L) (HO : vw_H 24 a_rowA a_rowB a_rowM a_size o O) (so : vw_so L) (soO : vw_so O) (pO : vw_ps O)
    (hO : ∀ p q, vw_v O p q = vw_b (vw_G k oL p q)) (h : vw_A a_accA a_accB a_accM c K E) (hK : K + 1 < 576)
    (hp : ∀ c' A' B' M', vw_A A' B' M' c' (K + 2) (fun p q => E p q + (if p = a then vw_b (vw_G k L a q) - vw_b (vw_G k oL a q) else 0)) → post (f_width, f_relSlots, f_emptyList, f_accRoom, f_leastInt, f_tableCount, f_maxViews, f_maxRows, f_maxMult, f_side, f_viewCount, f_pendCount, nI c', f_commits, a_rowA, a_rowB, a_rowM, a_size, a_relKind, a_relLeft, a_relRight, a_relFirst, a_relSecond, a_pendTable, a_pendA, a_pendB, a_pendN, A', B', M')) :
    wpX_regroup post (f_width, f_relSlots, f_emptyList, f_accRoom, f_leastInt, f_tableCount, f_maxViews, f_maxRows, f_maxMult, f_side, f_viewCount, f_pendCount, nI c, f_commits, a_rowA, a_rowB, a_rowM, a_size, a_relKind, a_relLeft, a_relRight, a_relFirst, a_relSecond, a_pendTable, a_pendA, a_pendB, a_pendN, a_accA, a_accB, a_accM) k a (nI l) (nI o) := by
  have hw := HO.2.1
  have rest : ∀ c' A' B' M', vw_A A' B' M' c' (K + 1) (fun p q => E p q - (if p = a then vw_b (vw_G k oL a q) else 0)) → wX_regroup_59 post k a (nI l) f_width f_relSlots f_emptyList f_accRoom f_leastInt f_tableCount f_maxViews f_maxRows f_maxMult f_side f_viewCount f_pendCount (nI c') f_commits a_rowA a_rowB a_rowM a_size a_relKind a_relLeft a_relRight a_relFirst a_relSecond a_pendTable a_pendA a_pendB a_pendN A' B' M' := by
    intro c' A' B' M' h'
    refine vw_rg2 hk hl H so h' hK (fun c2 A2 B2 M2 h2 => hp c2 A2 B2 M2 (vw_A_eq h2 (by omega) (fun p q => ?_)))
    by_cases c1 : p = a
    · rw [if_pos c1, if_pos c1, if_pos c1]; omega
    · rw [if_neg c1, if_neg c1, if_neg c1]; omega
  have none : (∀ x, x ∈ O → x.1 ≠ a) → wX_regroup_59 post k a (nI l) f_width f_relSlots f_emptyList f_accRoom f_leastInt f_tableCount f_maxViews f_maxRows f_maxMult f_side f_viewCount f_pendCount (nI c) f_commits a_rowA a_rowB a_rowM a_size a_relKind a_relLeft a_relRight a_relFirst a_relSecond a_pendTable a_pendA a_pendB a_pendN a_accA a_accB a_accM := by
    intro hn
    refine rest c _ _ _ (vw_A_eq h (by omega) (fun p q => ?_))
    by_cases c1 : p = a
    · rw [if_pos c1, ← hO, vw_v_none (fun x hx e => hn x hx (vw_k_eq.mp e).1)]; omega
    · rw [if_neg c1]; omega
  unfold wpX_regroup
  dsimp only
  refine vw_lb ho HO soO (fun L1 L2 e g1 g2 => ?_)
  have hl1 : L1.length + L2.length = O.length := by rw [e, List.length_append]
  refine nm_r (e' := nI (o * 24 + L1.length)) ((congrArg (fun z => z + nI L1.length) (pk_mul o 24)).trans (nI_add _ _)) ⟨vp_in_nI ho (by decide), ?_⟩
  rw [nI_clamp (n := o) (by omega), HO.1]
  have f1 : ∀ x, x ∈ L1 → x.1 ≠ a := fun x hx z => by
    have := vw_k_minlt.mp (g1 x hx)
    rw [z] at this
    exact absurd this Int32.lt_irrefl
  cases L2 with
  | nil =>
    refine br_t (nI_le (by simp at hl1; omega) (by omega)) (none (fun x hx => ?_))
    rw [e, List.append_nil] at hx
    exact f1 x hx
  | cons x L2 =>
    have hx : O[L1.length]? = some x := by rw [e]; exact vw_mid _ _ _
    have hH := HO.2.2 _ x hx
    have hlt := vw_ix hx
    have hi : vp_in (nI (o * 24 + L1.length)) 1080 := vp_in_nI (by omega) (by decide)
    rw [nI_clamp (n := o * 24 + L1.length) (by omega), hH.1, hH.2.1]
    refine br_f (nI_ge hlt (by omega)) ⟨hi, ?_⟩
    by_cases c1 : x.1 = a
    · refine br_t c1 ⟨hi, vw_ac (m := -1) rfl h (by omega) (fun c' A' B' M' h' => rest c' A' B' M' (vw_A_eq h' (by omega) (fun p q => ?_)))⟩
      have hxO : x ∈ O := List.mem_of_getElem? hx
      have v1 := vw_v_pos pO hxO
      have gx : vw_G k oL a x.2.1 := by
        apply Classical.byContradiction
        intro n
        rw [c1, hO, vw_b_f n] at v1
        omega
      by_cases c2 : p = a
      · rw [if_pos c2, c2]
        by_cases c3 : q = x.2.1
        · rw [c3, vw_d_1, vw_b_t gx]; omega
        · rw [vw_d_0 (fun z => c3 z.2.symm), vw_b_f (fun z => c3 (vw_G_u hk z gx))]; omega
      · rw [if_neg c2, vw_d_0 (fun z => c2 z.1.symm)]; omega
    · refine br_f c1 (none (fun y hy z => ?_))
      have f2 := vw_k_min.mp (g2 x List.mem_cons_self)
      rw [e] at hy
      rcases List.mem_append.mp hy with hy | hy
      · exact f1 y hy z
      · rcases List.mem_cons.mp hy with rfl | hy
        · exact c1 z
        · rw [e] at soO
          have f3 := vw_k_le1 ((List.pairwise_cons.mp (List.pairwise_append.mp soO).2.1).1 y hy)
          rw [z] at f3
          exact c1 (Int32.le_antisymm f3 f2)
theorem vw_gr_loop {post : SX → Prop} {D L O oL : List vw_T} {d l o : Nat} {k : Int32} {E : Int32 → Int32 → Int} (hk : k = 6 ∨ k = 7 ∨ k = 8 ∨ k = 9) (hd : d < 45) (hl : l < 45) (ho : o < 45) (HD : vw_H 24 a_rowA a_rowB a_rowM a_size d D) (H : vw_H 24 a_rowA a_rowB a_rowM a_size l L) (HO : vw_H 24 a_rowA a_rowB a_rowM a_size o O)
    (soD : vw_so D) (so : vw_so L) (soO : vw_so O) (pO : vw_ps O) (hO : ∀ p q, vw_v O p q = vw_b (vw_G k oL p q)) :
    ∀ (Q P : List vw_T) (n c K : Nat) (A B : Nat → Int32) (M : Nat → Int64), D = P ++ Q → Q.length < n → vw_A A B M c K (fun p q => E p q + vw_b (∃ x, x ∈ P ∧ x.1 = p) * (vw_b (vw_G k L p q) - vw_b (vw_G k oL p q))) → K + 2 * Q.length ≤ 576 →
    (∀ c' A' B' M', vw_A A' B' M' c' (K + 2 * Q.length) (fun p q => E p q + vw_b (∃ x, x ∈ D ∧ x.1 = p) * (vw_b (vw_G k L p q) - vw_b (vw_G k oL p q))) → post (f_width, f_relSlots, f_emptyList, f_accRoom, f_leastInt, f_tableCount, f_maxViews, f_maxRows, f_maxMult, f_side, f_viewCount, f_pendCount, nI c', f_commits, a_rowA, a_rowB, a_rowM, a_size, a_relKind, a_relLeft, a_relRight, a_relFirst, a_relSecond, a_pendTable, a_pendA, a_pendB, a_pendN, A', B', M')) →
    wX_deriveGroups_17 post k (nI l) (nI o) (nI (d * 24)) (nI D.length) n (nI P.length) f_width f_relSlots f_emptyList f_accRoom f_leastInt f_tableCount f_maxViews f_maxRows f_maxMult f_side f_viewCount f_pendCount (nI c) f_commits a_rowA a_rowB a_rowM a_size a_relKind a_relLeft a_relRight a_relFirst a_relSecond a_pendTable a_pendA a_pendB a_pendN A B M := by
  have hw := HD.2.1
  intro Q
  induction Q with
  | nil =>
    intro P n c K A B M e hn h hK hp
    obtain ⟨n, rfl⟩ : ∃ m, n = m + 1 := ⟨n - 1, by omega⟩
    rw [List.append_nil] at e
    subst e
    exact br_t (nI_le (by omega) (by omega)) (hp c A B M (vw_A_eq h (by omega) (fun a b => rfl)))
  | cons x Q ih =>
    intro P n c K A B M e hn h hK hp
    obtain ⟨n, rfl⟩ : ∃ m, n = m + 1 := ⟨n - 1, by omega⟩
    have hx : D[P.length]? = some x := by rw [e]; exact vw_mid _ _ _
    have hH := HD.2.2 _ x hx
    have hlt := vw_ix hx
    rw [List.length_cons] at hn hK hp
    have hi : vp_in (nI (d * 24 + P.length)) 1080 := vp_in_nI (by omega) (by decide)
    have first : (∀ y, y ∈ P → y.1 ≠ x.1) → wX_deriveGroups_58 post (wX_deriveGroups_17 post k (nI l) (nI o) (nI (d * 24)) (nI D.length) n) k (nI l) (nI o) (nI (d * 24)) (nI D.length) (nI P.length) x.1 f_width f_relSlots f_emptyList f_accRoom f_leastInt f_tableCount f_maxViews f_maxRows f_maxMult f_side f_viewCount f_pendCount (nI c) f_commits a_rowA a_rowB a_rowM a_size a_relKind a_relLeft a_relRight a_relFirst a_relSecond a_pendTable a_pendA a_pendB a_pendN A B M := by
      intro hf
      unfold wX_deriveGroups_58
      refine vw_rg hk hl ho H HO so soO pO hO h (by omega) (fun c' A' B' M' h' => nm_r (nI_1 _) ?_)
      have g := ih (P ++ [x]) n c' (K + 2) A' B' M' (by rw [e]; simp) (by omega) (vw_A_eq h' (by omega) (fun p q => ?_)) (by omega) (fun c2 A2 B2 M2 h2 => hp c2 A2 B2 M2 (vw_A_eq h2 (by omega) (fun a b => rfl)))
      · rw [vw_len1] at g
        exact g
      · by_cases c1 : p = x.1
        · rw [if_pos c1, c1, vw_b_t (P := ∃ y, y ∈ P ++ [x] ∧ y.1 = x.1) ⟨x, List.mem_append_right _ List.mem_cons_self, rfl⟩, vw_b_f (P := ∃ y, y ∈ P ∧ y.1 = x.1) (fun z => by obtain ⟨y, hy, hz⟩ := z; exact hf y hy hz), Int.one_mul, Int.zero_mul]; omega
        · rw [if_neg c1, vw_b_iff (P := ∃ y, y ∈ P ++ [x] ∧ y.1 = p) (Q := ∃ y, y ∈ P ∧ y.1 = p), Int.add_zero]
          refine ⟨fun z => ?_, fun z => ?_⟩
          · obtain ⟨y, hy, hz⟩ := z
            rcases List.mem_append.mp hy with hy | hy
            · exact ⟨y, hy, hz⟩
            · rw [List.mem_singleton.mp hy] at hz; exact absurd hz.symm c1
          · obtain ⟨y, hy, hz⟩ := z
            exact ⟨y, List.mem_append_left _ hy, hz⟩
    refine br_f (nI_ge hlt (by omega)) ?_
    rcases List.eq_nil_or_concat P with rfl | ⟨P', y, eP⟩
    · rw [nI_add, nI_clamp (by omega), hH.1]
      exact ⟨hi, nm_e (br_t rfl (first (fun y hy => absurd hy List.not_mem_nil)))⟩
    · have eP2 : P = P' ++ [y] := by rw [eP]; simp
      have hPl : P.length = P'.length + 1 := by rw [eP2, vw_len1]
      have hy : D[P'.length]? = some y := by rw [e, eP2, List.append_assoc]; exact vw_mid _ _ _
      have hHy := HD.2.2 _ y hy
      have e3 : nI (d * 24) + nI P.length - 1 = nI (d * 24 + P'.length) := by
        rw [hPl, nI_add]; exact nI_pred (d * 24 + P'.length)
      rw [e3, nI_clamp (n := d * 24 + P'.length) (by omega), hHy.1, nI_add, nI_clamp (by omega), hH.1]
      refine ⟨hi, nm_e (br_f (nI_ne0 (by omega) (by omega)) ⟨vp_in_nI (by omega) (by decide), ?_⟩)⟩
      by_cases c1 : y.1 = x.1
      · refine br_t c1 (nm_r (nI_1 _) ?_)
        have g := ih (P ++ [x]) n c K A B M (by rw [e]; simp) (by omega) (vw_A_eq h (by omega) (fun p q => ?_)) (by omega) (fun c2 A2 B2 M2 h2 => hp c2 A2 B2 M2 (vw_A_eq h2 (by omega) (fun a b => rfl)))
        · rw [vw_len1] at g
          exact g
        · rw [vw_b_iff (P := ∃ y, y ∈ P ++ [x] ∧ y.1 = p) (Q := ∃ y, y ∈ P ∧ y.1 = p)]
          refine ⟨fun z => ?_, fun z => ?_⟩
          · obtain ⟨w, hw, hz⟩ := z
            rcases List.mem_append.mp hw with hw | hw
            · exact ⟨w, hw, hz⟩
            · rw [List.mem_singleton.mp hw] at hz
              exact ⟨y, by rw [eP2]; exact List.mem_append_right _ List.mem_cons_self, c1.trans hz⟩
          · obtain ⟨w, hw, hz⟩ := z
            exact ⟨w, List.mem_append_left _ hw, hz⟩
      · refine br_f c1 (first (fun w hw z => ?_))
        rw [e] at soD
        have p1 := (List.pairwise_append.mp soD).2.2
        have hyx := vw_k_le1 (p1 y (by rw [eP2]; exact List.mem_append_right _ List.mem_cons_self) x List.mem_cons_self)
        rw [eP2] at hw
        rcases List.mem_append.mp hw with hw | hw
        · have soP := (List.pairwise_append.mp soD).1
          rw [eP2] at soP
          have hwy := vw_k_le1 ((List.pairwise_append.mp soP).2.2 w hw y List.mem_cons_self)
          rw [z] at hwy
          exact c1 (Int32.le_antisymm hyx hwy)
        · rw [List.mem_singleton.mp hw] at z
          exact c1 z
theorem vw_grps {post : SX → Prop} {D L O oL : List vw_T} {d l o c K : Nat} {k : Int32} {E : Int32 → Int32 → Int} (hk : k = 6 ∨ k = 7 ∨ k = 8 ∨ k = 9) (hd : d < 45) (hl : l < 45) (ho : o < 45) (HD : vw_H 24 a_rowA a_rowB a_rowM a_size d D) (H : vw_H 24 a_rowA a_rowB a_rowM a_size l L) (HO : vw_H 24 a_rowA a_rowB a_rowM a_size o O)
    (soD : vw_so D) (so : vw_so L) (soO : vw_so O) (pO : vw_ps O) (hO : ∀ p q, vw_v O p q = vw_b (vw_G k oL p q)) (h : vw_A a_accA a_accB a_accM c K E) (hK : K + 2 * D.length ≤ 576)
    (hp : ∀ c' A' B' M', vw_A A' B' M' c' (K + 2 * D.length) (fun p q => E p q + vw_b (∃ x, x ∈ D ∧ x.1 = p) * (vw_b (vw_G k L p q) - vw_b (vw_G k oL p q))) → post (f_width, f_relSlots, f_emptyList, f_accRoom, f_leastInt, f_tableCount, f_maxViews, f_maxRows, f_maxMult, f_side, f_viewCount, f_pendCount, nI c', f_commits, a_rowA, a_rowB, a_rowM, a_size, a_relKind, a_relLeft, a_relRight, a_relFirst, a_relSecond, a_pendTable, a_pendA, a_pendB, a_pendN, A', B', M')) :
    wpX_deriveGroups post (f_width, f_relSlots, f_emptyList, f_accRoom, f_leastInt, f_tableCount, f_maxViews, f_maxRows, f_maxMult, f_side, f_viewCount, f_pendCount, nI c, f_commits, a_rowA, a_rowB, a_rowM, a_size, a_relKind, a_relLeft, a_relRight, a_relFirst, a_relSecond, a_pendTable, a_pendA, a_pendB, a_pendN, a_accA, a_accB, a_accM) k (nI d) (nI l) (nI o) := by
  have hw := HD.2.1
  refine nm_r (e' := nI (d * 24)) (pk_mul d 24) ⟨vp_in_nI hd (by decide), nm_r (e' := nI D.length) ?_ ⟨D.length + 1, ?_⟩⟩
  · rw [nI_clamp (by omega)]; exact HD.1
  · refine vw_gr_loop (E := E) hk hd hl ho HD H HO soD so soO pO hO D [] _ c K _ _ _ rfl (by omega) (vw_A_eq h (by omega) (fun p q => ?_)) hK hp
    rw [vw_b_f (fun z => by obtain ⟨x, hx, _⟩ := z; exact absurd hx List.not_mem_nil), Int.zero_mul, Int.add_zero]
theorem vw_bl {post : Int32 → Prop} {s r : Nat} (h : post (nI (s * 22 + r))) : wpX_bagList post (f_width, f_relSlots, f_emptyList, f_accRoom, f_leastInt, f_tableCount, f_maxViews, f_maxRows, f_maxMult, f_side, f_viewCount, f_pendCount, f_accCount, f_commits, a_rowA, a_rowB, a_rowM, a_size, a_relKind, a_relLeft, a_relRight, a_relFirst, a_relSecond, a_pendTable, a_pendA, a_pendB, a_pendN, a_accA, a_accB, a_accM) (nI s) (nI r) := by
  have e : nI s * 2 * 11 + nI r = nI (s * 22 + r) := by
    rw [show nI s * 2 = nI (s * 2) from pk_mul s 2, show nI (s * 2) * 11 = nI (s * 2 * 11) from pk_mul (s * 2) 11, nI_add, Nat.mul_assoc]
  show post (nI s * 2 * 11 + nI r)
  rw [e]; exact h
theorem vw_dl {post : Int32 → Prop} {s r : Nat} (h : post (nI (s * 22 + 11 + r))) : wpX_deltaList post (f_width, f_relSlots, f_emptyList, f_accRoom, f_leastInt, f_tableCount, f_maxViews, f_maxRows, f_maxMult, f_side, f_viewCount, f_pendCount, f_accCount, f_commits, a_rowA, a_rowB, a_rowM, a_size, a_relKind, a_relLeft, a_relRight, a_relFirst, a_relSecond, a_pendTable, a_pendA, a_pendB, a_pendN, a_accA, a_accB, a_accM) (nI s) (nI r) := by
  have e : nI s * 2 * 11 + 11 + nI r = nI (s * 22 + 11 + r) := by
    rw [show nI s * 2 = nI (s * 2) from pk_mul s 2, show nI (s * 2) * 11 = nI (s * 2 * 11) from pk_mul (s * 2) 11, show nI (s * 2 * 11) + 11 = nI (s * 2 * 11 + 11) from nI_add _ 11, nI_add, Nat.mul_assoc]
  show post (nI s * 2 * 11 + 11 + nI r)
  rw [e]; exact h
theorem vw_der {post : SX → Prop} {v s c ldL lnL loL ldR lnR Mx : Nat} {k t f : Int32} {dL nL oL dR nR oR O : List vw_T} {E : Int32 → Int32 → Int} (hv : v < 11) (hs : s ≤ 1) (hM : Mx ≤ 9999)
    (ek : a_relKind v = k) (et : a_relFirst v = t) (ef : a_relSecond v = f) (hk : k = 1 ∨ k = 2 ∨ k = 3 ∨ k = 4 ∨ k = 5 ∨ k = 6 ∨ k = 7 ∨ k = 8 ∨ k = 9)
    (i1 : ldL < 45) (i2 : lnL < 45) (i3 : loL < 45) (i4 : ldR < 45) (i5 : lnR < 45)
    (H1 : vw_H 24 a_rowA a_rowB a_rowM a_size ldL dL) (H2 : vw_H 24 a_rowA a_rowB a_rowM a_size lnL nL) (H3 : vw_H 24 a_rowA a_rowB a_rowM a_size loL oL) (H4 : vw_H 24 a_rowA a_rowB a_rowM a_size ldR dR) (H5 : vw_H 24 a_rowA a_rowB a_rowM a_size lnR nR) (H6 : vw_H 24 a_rowA a_rowB a_rowM a_size (s * 22 + v) O) (H7 : vw_H 24 a_rowA a_rowB a_rowM a_size 44 [])
    (s1 : vw_so dL) (s2 : vw_so nL) (s4 : vw_so dR) (s5 : vw_so nR) (s6 : vw_so O)
    (b2 : vw_bg nL Mx) (b3 : vw_bg oL Mx) (b5 : vw_bg nR Mx) (b6 : vw_bg O Mx)
    (hL : ∀ a b, vw_v nL a b = vw_v oL a b + vw_v dL a b) (hR : ∀ a b, vw_v nR a b = vw_v oR a b + vw_v dR a b) (hO : ∀ a b, vw_v O a b = vw_F k t f oL oR a b)
    (h : vw_A a_accA a_accB a_accM c 0 E)
    (hp : ∀ c' A' B' M', vw_A A' B' M' c' 576 (fun p q => E p q + (vw_F k t f nL nR p q - vw_F k t f oL oR p q)) → post (f_width, f_relSlots, f_emptyList, f_accRoom, f_leastInt, f_tableCount, f_maxViews, f_maxRows, f_maxMult, nI s, f_viewCount, f_pendCount, nI c', f_commits, a_rowA, a_rowB, a_rowM, a_size, a_relKind, a_relLeft, a_relRight, a_relFirst, a_relSecond, a_pendTable, a_pendA, a_pendB, a_pendN, A', B', M')) :
    wpX_derive post (f_width, f_relSlots, f_emptyList, f_accRoom, f_leastInt, f_tableCount, f_maxViews, f_maxRows, f_maxMult, nI s, f_viewCount, f_pendCount, nI c, f_commits, a_rowA, a_rowB, a_rowM, a_size, a_relKind, a_relLeft, a_relRight, a_relFirst, a_relSecond, a_pendTable, a_pendA, a_pendB, a_pendN, a_accA, a_accB, a_accM) (nI v) (nI ldL) (nI lnL) (nI loL) (nI ldR) (nI lnR) := by
  have w1 := H1.2.1
  have w4 := H4.2.1
  have hin : vp_in (nI v) 11 := vp_in_nI hv (by decide)
  refine And.intro hin (nm_r (e' := k) (by rw [nI_clamp (by omega)]; exact ek) (vw_bl ?_))
  rw [nI_clamp (by omega), et, ef]
  rcases hk with rfl | rfl | rfl | rfl | rfl | hk
  · refine br_t rfl ⟨hin, hin, vw_sel i1 H1 h (by omega) (fun c' A' B' M' h' => hp c' A' B' M' (vw_A_eq h' (by omega) (fun p q => ?_)))⟩
    rw [vw_F1, vw_F1, vw_W_add hL]; omega
  · refine br_f (by decide) (br_t rfl ⟨hin, hin, vw_prj i1 H1 h (by omega) (fun c' A' B' M' h' => hp c' A' B' M' (vw_A_eq h' (by omega) (fun p q => ?_)))⟩)
    rw [vw_F2, vw_F2, vw_W_add hL]; omega
  · have k1 : dL.length * nR.length ≤ 24 * 12 := Nat.mul_le_mul w1 b5.2.1
    have k2 : oL.length * dR.length ≤ 12 * 24 := Nat.mul_le_mul b3.2.1 w4
    refine br_f (by decide) (br_f (by decide) (br_t rfl (vw_prod i1 i5 H1 H5 s5 h (by omega) (fun c' A' B' M' h' => vw_prod i3 i4 H3 H4 s4 h' (by omega) (fun c2 A2 B2 M2 h2 => hp c2 A2 B2 M2 (vw_A_eq h2 (by omega) (fun p q => ?_)))))))
    have := vw_F3_st (t := t) (f := f) hL hR p q
    omega
  · refine br_f (by decide) (br_f (by decide) (br_f (by decide) (br_t rfl (vw_cpy i1 H1 h (by omega) (fun c' A' B' M' h' => vw_cpy i4 H4 h' (by omega) (fun c2 A2 B2 M2 h2 => hp c2 A2 B2 M2 (vw_A_eq h2 (by omega) (fun p q => ?_))))))))
    rw [vw_F4, vw_F4, hL, hR]; omega
  · refine br_f (by decide) (br_f (by decide) (br_f (by decide) (br_f (by decide) (br_t rfl (vw_dif (N := []) (n' := 44) hM i1 (by decide) i2 i5 (by omega) H1 H7 H2 H5 H6 List.Pairwise.nil s2 s5 s6 b2 b5 b6 h (by omega) (fun c' A' B' M' h' => vw_dif hM i4 i1 i2 i5 (by omega) H4 H1 H2 H5 H6 s1 s2 s5 s6 b2 b5 b6 h' (by omega) (fun c2 A2 B2 M2 h2 => hp c2 A2 B2 M2 (vw_A_eq h2 (by omega) (fun p q => ?_)))))))))
    have := vw_df_3 hL hR (vw_so_nd s1) (vw_so_nd s4) hO p q
    omega
  · have n1 : ¬ k = 1 := by rcases hk with rfl | rfl | rfl | rfl <;> decide
    have n2 : ¬ k = 2 := by rcases hk with rfl | rfl | rfl | rfl <;> decide
    have n3 : ¬ k = 3 := by rcases hk with rfl | rfl | rfl | rfl <;> decide
    have n4 : ¬ k = 4 := by rcases hk with rfl | rfl | rfl | rfl <;> decide
    have n5 : ¬ k = 5 := by rcases hk with rfl | rfl | rfl | rfl <;> decide
    have hO' : ∀ p q, vw_v O p q = vw_b (vw_G k oL p q) := fun p q => by rw [hO, vw_F6 hk]
    refine br_f n1 (br_f n2 (br_f n3 (br_f n4 (br_f n5 (vw_grps (oL := oL) hk i1 i2 (by omega) H1 H2 H6 s1 s2 s6 (vw_bg_ps b6) hO' h (by omega) (fun c' A' B' M' h' => hp c' A' B' M' (vw_A_eq h' (by omega) (fun p q => ?_))))))))
    rw [vw_F6 hk, vw_F6 hk]
    rcases Classical.em (∃ x, x ∈ dL ∧ x.1 = p) with c1 | c1
    · rw [vw_b_t c1, Int.one_mul]
    · rw [vw_b_f c1, Int.zero_mul, vw_b_iff (vw_G_un (k := k) (b := q) (vw_bg_ps b3) (vw_bg_ps b2) hL (fun x hx e => c1 ⟨x, hx, e⟩))]; omega
end
end
section
def vw_SI (vn : Int32 → Int32 → Int) (Q O2 C2 : List vw_T) : Prop :=
  vw_so Q ∧ (∀ x, x ∈ Q → ∀ y, y ∈ O2 → vw_q x < vw_q y) ∧ (∀ x, x ∈ Q → ∀ y, y ∈ C2 → vw_q x < vw_q y) ∧ vw_so O2 ∧ vw_so C2 ∧ ∀ a b, vw_v Q a b + (vw_v O2 a b + vw_v C2 a b) = vn a b
def vw_ST (Q O2 C2 : List vw_T) (y : vw_T) (O3 C3 : List vw_T) : Prop :=
  (∀ p q, vw_v O2 p q + vw_v C2 p q = vw_d p q y.1 y.2.1 * y.2.2 + (vw_v O3 p q + vw_v C3 p q)) ∧ (∀ x, x ∈ Q → vw_q x < vw_q y) ∧ (∀ x, x ∈ O3 → vw_q y < vw_q x) ∧ (∀ x, x ∈ C3 → vw_q y < vw_q x) ∧ vw_so O3 ∧ vw_so C3
theorem vw_SI_in {vn : Int32 → Int32 → Int} {Q O2 C2 : List vw_T} (h : vw_SI vn Q O2 C2) {x : vw_T} (hx : x ∈ Q) : vn x.1 x.2.1 = x.2.2 := by
  obtain ⟨h1, h2, h3, _, _, h6⟩ := h
  rw [← h6, vw_v_in (vw_so_nd h1) hx, vw_v_none (l := O2) (fun y hy => Int.ne_of_gt (h2 x hx y hy)), vw_v_none (l := C2) (fun y hy => Int.ne_of_gt (h3 x hx y hy))]
  omega
theorem vw_ST_s {vn : Int32 → Int32 → Int} {Q O2 C2 O3 C3 : List vw_T} {y : vw_T} (h : vw_SI vn Q O2 C2) (g : vw_ST Q O2 C2 y O3 C3) : vw_SI vn (Q ++ [y]) O3 C3 := by
  obtain ⟨h1, h2, h3, _, _, h6⟩ := h
  obtain ⟨g1, g2, g3, g4, g5, g6⟩ := g
  refine ⟨List.pairwise_append.mpr ⟨h1, List.pairwise_singleton _ _, fun x hx z hz => ?_⟩, fun x hx z hz => ?_, fun x hx z hz => ?_, g5, g6, fun a b => ?_⟩
  · rw [List.mem_singleton.mp hz]; exact g2 x hx
  · rcases List.mem_append.mp hx with hx | hx
    · exact Int.lt_trans (g2 x hx) (g3 z hz)
    · rw [List.mem_singleton.mp hx]; exact g3 z hz
  · rcases List.mem_append.mp hx with hx | hx
    · exact Int.lt_trans (g2 x hx) (g4 z hz)
    · rw [List.mem_singleton.mp hx]; exact g4 z hz
  · rw [vw_v_app, vw_v_cons, vw_v_nil, ← h6]
    have := g1 a b
    omega
theorem vw_ST_z {vn : Int32 → Int32 → Int} {Q O2 C2 O3 C3 : List vw_T} {y : vw_T} (h : vw_SI vn Q O2 C2) (g : vw_ST Q O2 C2 y O3 C3) (z : y.2.2 = 0) : vw_SI vn Q O3 C3 := by
  obtain ⟨h1, h2, h3, _, _, h6⟩ := h
  obtain ⟨g1, g2, g3, g4, g5, g6⟩ := g
  refine ⟨h1, fun x hx z hz => Int.lt_trans (g2 x hx) (g3 z hz), fun x hx z hz => Int.lt_trans (g2 x hx) (g4 z hz), g5, g6, fun a b => ?_⟩
  have := g1 a b
  rw [z, Int.mul_zero] at this
  rw [← h6]
  omega
theorem vw_ST_m {vn : Int32 → Int32 → Int} {Q O2 C2 O3 C3 : List vw_T} {y : vw_T} (h : vw_SI vn Q O2 C2) (g : vw_ST Q O2 C2 y O3 C3) : vn y.1 y.2.1 = y.2.2 :=
  vw_SI_in (vw_ST_s h g) (List.mem_append_right _ List.mem_cons_self)
theorem vw_hd {l : List vw_T} (so : vw_so l) {k : Int} (h : ∀ x, l.head? = some x → k < vw_q x) : ∀ x, x ∈ l → k < vw_q x := by
  cases l with
  | nil => exact fun x hx => absurd hx List.not_mem_nil
  | cons y l =>
    intro x hx
    have h1 := h y rfl
    rcases List.mem_cons.mp hx with rfl | hx
    · exact h1
    · exact Int.lt_trans h1 ((List.pairwise_cons.mp so).1 x hx)
theorem vw_ST1 {vn : Int32 → Int32 → Int} {Q O3 C2 : List vw_T} {o : vw_T} (h : vw_SI vn Q (o :: O3) C2) (hc : ∀ x, C2.head? = some x → vw_q o < vw_q x) : vw_ST Q (o :: O3) C2 o O3 C2 := by
  obtain ⟨h1, h2, h3, h4, h5, h6⟩ := h
  exact ⟨fun p q => by rw [vw_v_cons]; omega, fun x hx => h2 x hx o List.mem_cons_self, (List.pairwise_cons.mp h4).1, vw_hd h5 hc, (List.pairwise_cons.mp h4).2, h5⟩
theorem vw_ST2 {vn : Int32 → Int32 → Int} {Q O3 C3 : List vw_T} {o c : vw_T} (h : vw_SI vn Q (o :: O3) (c :: C3)) (e : vw_q o = vw_q c) : vw_ST Q (o :: O3) (c :: C3) (c.1, c.2.1, o.2.2 + c.2.2) O3 C3 := by
  obtain ⟨h1, h2, h3, h4, h5, h6⟩ := h
  have e2 := vw_k_eq.mp e
  refine ⟨fun p q => ?_, fun x hx => h3 x hx c List.mem_cons_self, fun x hx => ?_, (List.pairwise_cons.mp h5).1, (List.pairwise_cons.mp h4).2, (List.pairwise_cons.mp h5).2⟩
  · rw [vw_v_cons, vw_v_cons, e2.1, e2.2]
    show _ = vw_d p q c.1 c.2.1 * (o.2.2 + c.2.2) + _
    rw [Int.mul_add]; omega
  · have := (List.pairwise_cons.mp h4).1 x hx
    rw [e] at this
    exact this
theorem vw_ST3 {vn : Int32 → Int32 → Int} {Q O2 C3 : List vw_T} {c : vw_T} (h : vw_SI vn Q O2 (c :: C3)) (ho : ∀ x, O2.head? = some x → vw_q c < vw_q x) : vw_ST Q O2 (c :: C3) c O2 C3 := by
  obtain ⟨h1, h2, h3, h4, h5, h6⟩ := h
  exact ⟨fun p q => by rw [vw_v_cons]; omega, fun x hx => h3 x hx c List.mem_cons_self, vw_hd h4 ho, (List.pairwise_cons.mp h5).1, h4, (List.pairwise_cons.mp h5).2⟩
theorem vw_l64le {m : Int} {Mx : Nat} (h1 : -2147483648 ≤ m) (h2 : m < 2147483648) (hM : Mx ≤ 9999) : Int64.ofInt m ≤ (nI Mx).toInt64 ↔ m ≤ Mx := by
  rw [Int64.le_iff_toInt_le, Int64.toInt_ofInt_of_le (by omega) (by omega), Int32.toInt_toInt64, nI_toInt (by omega)]
theorem vw_l64le0 {m : Int} (h1 : -2147483648 ≤ m) (h2 : m < 2147483648) : Int64.ofInt m ≤ 0 ↔ m ≤ 0 := by
  rw [Int64.le_iff_toInt_le, Int64.toInt_ofInt_of_le (by omega) (by omega), show (0 : Int64).toInt = 0 from by decide]
theorem vw_l64eq0 {m : Int} (h1 : -2147483648 ≤ m) (h2 : m < 2147483648) : Int64.ofInt m = 0 ↔ m = 0 := by
  rw [← Int64.toInt_inj, Int64.toInt_ofInt_of_le (by omega) (by omega), show (0 : Int64).toInt = 0 from by decide]
theorem vw_l64i {m : Int} (h1 : -2147483648 ≤ m) (h2 : m < 2147483648) : (Int64.ofInt m).toInt32.toInt = m := by
  rw [Int64.toInt32_ofInt, Int32.toInt_ofInt_of_le (by omega) (by omega)]
def vw_h (w : Nat) (A B M : Nat → Int32) (l : Nat) (L : List vw_T) : Prop := ∀ i x, L[i]? = some x → A (l * w + i) = x.1 ∧ B (l * w + i) = x.2.1 ∧ (M (l * w + i)).toInt = x.2.2
theorem vw_h_s {w l : Nat} {A B M : Nat → Int32} {L : List vw_T} {a b m : Int32} {x : vw_T} (h : vw_h w A B M l L) (ha : a = x.1) (hb : b = x.2.1) (hm : m.toInt = x.2.2) : vw_h w (upd A (l * w + L.length) a) (upd B (l * w + L.length) b) (upd M (l * w + L.length) m) l (L ++ [x]) := by
  intro i y hy
  rcases Nat.lt_or_ge i L.length with c | c
  · rw [List.getElem?_append_left c] at hy
    rw [pk_un (by omega), pk_un (by omega), pk_un (by omega)]
    exact h i y hy
  · have hi := vw_ix hy
    rw [vw_len1] at hi
    have e : i = L.length := by omega
    subst e
    rw [vw_mid] at hy
    cases hy
    rw [pk_us, pk_us, pk_us]
    exact ⟨ha, hb, hm⟩
section
variable {f_width f_relSlots f_emptyList f_accRoom f_leastInt f_tableCount f_maxViews f_maxRows f_maxMult f_side f_viewCount f_pendCount f_accCount f_commits : Int32} {a_rowA a_rowB a_rowM a_size a_relKind a_relLeft a_relRight a_relFirst a_relSecond a_pendTable a_pendA a_pendB a_pendN a_accA a_accB : Nat → Int32} {a_accM : Nat → Int64}
theorem vw_sl_loop {post : Int32 → SX → Prop} {O C : List vw_T} {o t c Rx Mx : Nat} {vn : Int32 → Int32 → Int} {A0 B0 M0 : Nat → Int32} (ho : o < 45) (ht : t < 45) (hot : o ≠ t) (hR : Rx ≤ 12) (hM : Mx ≤ 9999) (hO : O.length ≤ 12) (hC : C.length = c) (hc : c ≤ 576)
    (HC : ∀ i x, C[i]? = some x → a_accA i = x.1 ∧ a_accB i = x.2.1 ∧ a_accM i = Int64.ofInt x.2.2) (hvn : ∀ a b, 0 ≤ vn a b ∧ vn a b < 2147483648)
    (hok : ∀ A B M Q, vw_fr 24 t A0 A → vw_fr 24 t B0 B → vw_fr 24 t M0 M → vw_H 24 A B M (upd a_size t (nI Q.length)) t Q → vw_so Q → vw_bg Q Mx → Q.length ≤ Rx → (∀ a b, vw_v Q a b = vn a b) → post 1 (f_width, f_relSlots, f_emptyList, f_accRoom, f_leastInt, f_tableCount, f_maxViews, nI Rx, nI Mx, f_side, f_viewCount, f_pendCount, nI c, f_commits, A, B, M, upd a_size t (nI Q.length), a_relKind, a_relLeft, a_relRight, a_relFirst, a_relSecond, a_pendTable, a_pendA, a_pendB, a_pendN, a_accA, a_accB, a_accM))
    (hno : ∀ A B M, vw_fr 24 t A0 A → vw_fr 24 t B0 B → vw_fr 24 t M0 M → ¬ vw_fits vn Rx Mx → post 0 (f_width, f_relSlots, f_emptyList, f_accRoom, f_leastInt, f_tableCount, f_maxViews, nI Rx, nI Mx, f_side, f_viewCount, f_pendCount, nI c, f_commits, A, B, M, a_size, a_relKind, a_relLeft, a_relRight, a_relFirst, a_relSecond, a_pendTable, a_pendA, a_pendB, a_pendN, a_accA, a_accB, a_accM)) :
    ∀ (n : Nat) (Q O1 O2 C1 C2 : List vw_T) (A B M : Nat → Int32) (st : Nat), O = O1 ++ O2 → C = C1 ++ C2 → O2.length + C2.length < n → st + O2.length + C2.length ≤ 599 → vw_SI vn Q O2 C2 → (∀ x, x ∈ Q → 0 < x.2.2 ∧ x.2.2 ≤ (Mx : Int)) → Q.length ≤ Rx →
    vw_fr 24 t A0 A → vw_fr 24 t B0 B → vw_fr 24 t M0 M → vw_H 24 A B M a_size o O → vw_h 24 A B M t Q →
    wX_settle_31 post (nI t) (nI (o * 24)) (nI (t * 24)) (nI O.length) f_width f_relSlots f_emptyList f_accRoom f_leastInt f_tableCount f_maxViews (nI Rx) (nI Mx) f_side f_viewCount f_pendCount (nI c) f_commits n (nI Q.length) (nI O1.length) (nI C1.length) (nI st) A B M a_size a_relKind a_relLeft a_relRight a_relFirst a_relSecond a_pendTable a_pendA a_pendB a_pendN a_accA a_accB a_accM := by
  intro n
  induction n with
  | zero => intro Q O1 O2 C1 C2 A B M st _ _ h; exact absurd h (by omega)
  | succ n ih =>
    intro Q O1 O2 C1 C2 A B M st eO eC hn hst SI hQ hQR fA fB fM HO HQ
    have lO : O.length = O1.length + O2.length := by rw [eO, List.length_append]
    have lC : C.length = C1.length + C2.length := by rw [eC, List.length_append]
    have s207 : ∀ (y : vw_T) (O1' O3 C1' C3 : List vw_T), vw_ST Q O2 C2 y O3 C3 → O = O1' ++ O3 → C = C1' ++ C3 → O3.length + C3.length < n → st + 1 + O3.length + C3.length ≤ 599 →
        wX_settle_207 post (wX_settle_31 post (nI t) (nI (o * 24)) (nI (t * 24)) (nI O.length) f_width f_relSlots f_emptyList f_accRoom f_leastInt f_tableCount f_maxViews (nI Rx) (nI Mx) f_side f_viewCount f_pendCount (nI c) f_commits n) (nI t) (nI (o * 24)) (nI (t * 24)) (nI O.length) (nI Q.length) (nI O1'.length) (nI C1'.length) (nI st) y.1 y.2.1 (Int64.ofInt y.2.2) f_width f_relSlots f_emptyList f_accRoom f_leastInt f_tableCount f_maxViews (nI Rx) (nI Mx) f_side f_viewCount f_pendCount (nI c) f_commits A B M a_size a_relKind a_relLeft a_relRight a_relFirst a_relSecond a_pendTable a_pendA a_pendB a_pendN a_accA a_accB a_accM := by
      intro y O1' O3 C1' C3 ST eO' eC' hn' hst'
      have em := vw_ST_m SI ST
      have bm := hvn y.1 y.2.1
      rw [em] at bm
      by_cases c1 : y.2.2 ≤ Mx
      · refine br_t ((vw_l64le (by omega) (by omega) hM).mpr c1) ?_
        by_cases c2 : y.2.2 ≤ 0
        · exact br_t ((vw_l64le0 (by omega) (by omega)).mpr c2) (nm_r (nI_1 _) (ih Q O1' O3 C1' C3 A B M (st + 1) eO' eC' hn' hst' (vw_ST_z SI ST (by omega)) hQ hQR fA fB fM HO HQ))
        · refine br_f (fun z => c2 ((vw_l64le0 (by omega) (by omega)).mp z)) ?_
          by_cases c3 : Q.length < Rx
          · have hi : vp_in (nI (t * 24) + nI Q.length) 1080 := by rw [nI_add]; exact vp_in_nI (by omega) (by decide)
            have ei : (nI (t * 24) + nI Q.length).toNatClampNeg = t * 24 + Q.length := by rw [nI_add, nI_clamp (by omega)]
            refine br_t (nI_lt c3 (by omega)) ⟨hi, nm_r (e' := upd A (t * 24 + Q.length) y.1) (by rw [ei]) ⟨hi, nm_r (e' := upd B (t * 24 + Q.length) y.2.1) (by rw [ei]) ⟨hi, nm_r (e' := upd M (t * 24 + Q.length) (Int64.ofInt y.2.2).toInt32) (by rw [ei]) (nm_r (nI_1 _) (nm_r (nI_1 _) ?_))⟩⟩⟩
            have fA' := vw_fr_u (x := y.1) fA (show Q.length < 24 by omega)
            have fB' := vw_fr_u (x := y.2.1) fB (show Q.length < 24 by omega)
            have fM' := vw_fr_u (x := (Int64.ofInt y.2.2).toInt32) fM (show Q.length < 24 by omega)
            have g := ih (Q ++ [y]) O1' O3 C1' C3 _ _ _ (st + 1) eO' eC' hn' hst' (vw_ST_s SI ST) (fun x hx => by
              rcases List.mem_append.mp hx with hx | hx
              · exact hQ x hx
              · rw [List.mem_singleton.mp hx]; omega) (by rw [vw_len1]; omega) fA' fB' fM'
              (vw_H_fr HO hot (vw_fr_u vw_fr_rf (show Q.length < 24 by omega)) (vw_fr_u vw_fr_rf (show Q.length < 24 by omega)) (vw_fr_u vw_fr_rf (show Q.length < 24 by omega)) rfl)
              (vw_h_s HQ rfl rfl (vw_l64i (by omega) (by omega)))
            rw [vw_len1] at g
            exact g
          · refine br_f (nI_nlt (by omega) (by omega)) (hno A B M fA fB fM ?_)
            have SI' := vw_ST_s SI ST
            refine vw_fits_not (l := Q ++ [y]) (vw_so_nd SI'.1) (fun x hx => ?_) (by rw [vw_len1]; omega)
            rw [vw_SI_in SI' hx]
            rcases List.mem_append.mp hx with hx | hx
            · have := hQ x hx; omega
            · rw [List.mem_singleton.mp hx]; omega
      · refine br_f (fun z => c1 ((vw_l64le (by omega) (by omega) hM).mp z)) (hno A B M fA fB fM (fun z => c1 ?_))
        have := z.1 y.1 y.2.1
        rw [em] at this
        exact this
    have s169 : ∀ (x10 x11 x12 : Int32) (x7 : Nat) (m0 : Int) (c0 : vw_T) (C3 : List vw_T), C2 = c0 :: C3 → ¬ x10 < 0 → (∀ O1' O3, O1'.length = x7 → O = O1' ++ O3 → O3.length ≤ O2.length → vw_ST Q O2 C2 (c0.1, c0.2.1, m0 + c0.2.2) O3 C3 → wX_settle_169 post (wX_settle_31 post (nI t) (nI (o * 24)) (nI (t * 24)) (nI O.length) f_width f_relSlots f_emptyList f_accRoom f_leastInt f_tableCount f_maxViews (nI Rx) (nI Mx) f_side f_viewCount f_pendCount (nI c) f_commits n) (nI t) (nI (o * 24)) (nI (t * 24)) (nI O.length) (nI Q.length) (nI x7) (nI C1.length) (nI st) x10 x11 x12 (Int64.ofInt m0) f_width f_relSlots f_emptyList f_accRoom f_leastInt f_tableCount f_maxViews (nI Rx) (nI Mx) f_side f_viewCount f_pendCount (nI c) f_commits A B M a_size a_relKind a_relLeft a_relRight a_relFirst a_relSecond a_pendTable a_pendA a_pendB a_pendN a_accA a_accB a_accM) := by
      intro x10 x11 x12 x7 m0 c0 C3 e2 hneg O1' O3 e7 eO' hlo ST
      subst e2
      subst e7
      rw [List.length_cons] at lC hn hst
      have hx : C[C1.length]? = some c0 := by rw [eC]; exact vw_mid _ _ _
      have hH := HC _ c0 hx
      have hi : vp_in (nI C1.length) 576 := vp_in_nI (by omega) (by decide)
      have ei : (nI C1.length).toNatClampNeg = C1.length := nI_clamp (by omega)
      refine br_f hneg ⟨hi, nm_r (e' := c0.1) (by rw [ei]; exact hH.1) ⟨hi, nm_r (e' := c0.2.1) (by rw [ei]; exact hH.2.1) ⟨hi, nm_r (e' := Int64.ofInt (m0 + c0.2.2)) (by rw [ei, hH.2.2, Int64.ofInt_add]) (nm_r (nI_1 _) ?_)⟩⟩⟩
      have g := s207 (c0.1, c0.2.1, m0 + c0.2.2) O1' O3 (C1 ++ [c0]) C3 ST eO' (by rw [eC]; simp) (by omega) (by omega)
      rw [vw_len1] at g
      exact g
    refine br_f (nI_ge (b := 600) (by omega) (by decide)) ?_
    cases O2 with
    | nil =>
      rw [List.length_nil] at lO hst hn
      refine br_f (nI_nlt (by omega) (by omega)) ?_
      cases C2 with
      | nil =>
        rw [List.length_nil] at lC
        refine br_t (nI_le (by omega) (by omega)) ⟨vp_in_nI ht (by decide), nm_r (e' := upd a_size t (nI Q.length)) (by rw [nI_clamp (by omega)]) (hok A B M Q fA fB fM ⟨pk_us, by omega, HQ⟩ SI.1 ⟨vw_so_nd SI.1, by omega, hQ⟩ hQR (fun a b => ?_))⟩
        have := SI.2.2.2.2.2 a b
        rw [vw_v_nil] at this
        omega
      | cons c0 C3 =>
        rw [List.length_cons] at lC
        refine br_f (nI_ge (by omega) (by omega)) (br_f (nI_nlt (by omega) (by omega)) (br_t (by decide) ?_))
        have ST := vw_ST3 SI (fun x hx => by simp at hx)
        have e0 : (c0.1, c0.2.1, (0 : Int) + c0.2.2) = c0 := by rw [Int.zero_add]
        exact s169 1 0 0 _ 0 c0 C3 rfl (by decide) O1 [] rfl eO (by omega) (by rw [e0]; exact ST)
    | cons o0 O3 =>
      rw [List.length_cons] at lO hst hn
      have hx : O[O1.length]? = some o0 := by rw [eO]; exact vw_mid _ _ _
      have hH := HO.2.2 _ o0 hx
      have hlt : nI O1.length < nI O.length := nI_lt (by omega) (by omega)
      have hi : vp_in (nI (o * 24) + nI O1.length) 1080 := by rw [nI_add]; exact vp_in_nI (by omega) (by decide)
      have ei : (nI (o * 24) + nI O1.length).toNatClampNeg = o * 24 + O1.length := by rw [nI_add, nI_clamp (by omega)]
      have s118 : ∀ (x10 : Int32), ¬ 0 < x10 → wX_settle_169 post (wX_settle_31 post (nI t) (nI (o * 24)) (nI (t * 24)) (nI O.length) f_width f_relSlots f_emptyList f_accRoom f_leastInt f_tableCount f_maxViews (nI Rx) (nI Mx) f_side f_viewCount f_pendCount (nI c) f_commits n) (nI t) (nI (o * 24)) (nI (t * 24)) (nI O.length) (nI Q.length) (nI (O1.length + 1)) (nI C1.length) (nI st) x10 o0.1 o0.2.1 (Int64.ofInt o0.2.2) f_width f_relSlots f_emptyList f_accRoom f_leastInt f_tableCount f_maxViews (nI Rx) (nI Mx) f_side f_viewCount f_pendCount (nI c) f_commits A B M a_size a_relKind a_relLeft a_relRight a_relFirst a_relSecond a_pendTable a_pendA a_pendB a_pendN a_accA a_accB a_accM → wX_settle_118 post (wX_settle_31 post (nI t) (nI (o * 24)) (nI (t * 24)) (nI O.length) f_width f_relSlots f_emptyList f_accRoom f_leastInt f_tableCount f_maxViews (nI Rx) (nI Mx) f_side f_viewCount f_pendCount (nI c) f_commits n) (nI t) (nI (o * 24)) (nI (t * 24)) (nI O.length) (nI Q.length) (nI O1.length) (nI C1.length) (nI st) x10 f_width f_relSlots f_emptyList f_accRoom f_leastInt f_tableCount f_maxViews (nI Rx) (nI Mx) f_side f_viewCount f_pendCount (nI c) f_commits A B M a_size a_relKind a_relLeft a_relRight a_relFirst a_relSecond a_pendTable a_pendA a_pendB a_pendN a_accA a_accB a_accM := by
        intro x10 hx10 g
        exact br_f hx10 ⟨hi, nm_r (e' := o0.1) (by rw [ei]; exact hH.1) ⟨hi, nm_r (e' := o0.2.1) (by rw [ei]; exact hH.2.1) ⟨hi, nm_r (e' := Int64.ofInt o0.2.2) (by rw [ei]; exact vw_l64 hH.2.2) (nm_r (nI_1 _) g)⟩⟩⟩
      have only : (∀ x, C2.head? = some x → vw_q o0 < vw_q x) → wX_settle_118 post (wX_settle_31 post (nI t) (nI (o * 24)) (nI (t * 24)) (nI O.length) f_width f_relSlots f_emptyList f_accRoom f_leastInt f_tableCount f_maxViews (nI Rx) (nI Mx) f_side f_viewCount f_pendCount (nI c) f_commits n) (nI t) (nI (o * 24)) (nI (t * 24)) (nI O.length) (nI Q.length) (nI O1.length) (nI C1.length) (nI st) (-1) f_width f_relSlots f_emptyList f_accRoom f_leastInt f_tableCount f_maxViews (nI Rx) (nI Mx) f_side f_viewCount f_pendCount (nI c) f_commits A B M a_size a_relKind a_relLeft a_relRight a_relFirst a_relSecond a_pendTable a_pendA a_pendB a_pendN a_accA a_accB a_accM := by
        intro hc0
        refine s118 (-1) (by decide) (br_t (by decide) ?_)
        have g := s207 o0 (O1 ++ [o0]) O3 C1 C2 (vw_ST1 SI hc0) (by rw [eO]; simp) eC (by omega) (by omega)
        rw [vw_len1] at g
        exact g
      refine br_t hlt (br_t hlt ?_)
      cases C2 with
      | nil =>
        rw [List.length_nil] at lC
        exact br_t (nI_le (by omega) (by omega)) (only (fun x hx => by simp at hx))
      | cons c0 C3 =>
        rw [List.length_cons] at lC
        have hxc : C[C1.length]? = some c0 := by rw [eC]; exact vw_mid _ _ _
        have hHc := HC _ c0 hxc
        have hic : vp_in (nI C1.length) 576 := vp_in_nI (by omega) (by decide)
        refine br_f (nI_ge (by omega) (by omega)) ?_
        rw [ei, nI_clamp (n := C1.length) (by omega), hH.1, hH.2.1, hHc.1, hHc.2.1]
        refine ⟨hi, hi, hic, hic, vw_cmp (fun z => ?_) (fun z => ?_) (fun z => ?_)⟩
        · exact only (fun x hx => by cases hx; exact z)
        · refine s118 0 (by decide) ?_
          have ST := vw_ST2 SI z
          have g := s169 0 o0.1 o0.2.1 (O1.length + 1) o0.2.2 c0 C3 rfl (by decide) (O1 ++ [o0]) O3 (vw_len1 _ _) (by rw [eO]; simp) (by rw [List.length_cons]; omega) ST
          exact g
        · refine br_t (by decide) ?_
          have ST := vw_ST3 SI (fun x hx => by cases hx; exact z)
          have e0 : (c0.1, c0.2.1, (0 : Int) + c0.2.2) = c0 := by rw [Int.zero_add]
          exact s169 1 0 0 _ 0 c0 C3 rfl (by decide) O1 (o0 :: O3) rfl eO (by omega) (by rw [e0]; exact ST)
theorem vw_set {post : Int32 → SX → Prop} {O C : List vw_T} {o t c Rx Mx : Nat} {vn : Int32 → Int32 → Int} (ho : o < 45) (ht : t < 45) (hot : o ≠ t) (hR : Rx ≤ 12) (hM : Mx ≤ 9999) (hO : O.length ≤ 12) (hC : C.length = c) (hc : c ≤ 576)
    (HC : ∀ i x, C[i]? = some x → a_accA i = x.1 ∧ a_accB i = x.2.1 ∧ a_accM i = Int64.ofInt x.2.2) (soC : vw_so C) (soO : vw_so O) (H : vw_H 24 a_rowA a_rowB a_rowM a_size o O) (hvn : ∀ a b, 0 ≤ vn a b ∧ vn a b < 2147483648) (hv : ∀ a b, vw_v O a b + vw_v C a b = vn a b)
    (hok : ∀ A B M Q, vw_fr 24 t a_rowA A → vw_fr 24 t a_rowB B → vw_fr 24 t a_rowM M → vw_H 24 A B M (upd a_size t (nI Q.length)) t Q → vw_so Q → vw_bg Q Mx → Q.length ≤ Rx → (∀ a b, vw_v Q a b = vn a b) → post 1 (f_width, f_relSlots, f_emptyList, f_accRoom, f_leastInt, f_tableCount, f_maxViews, nI Rx, nI Mx, f_side, f_viewCount, f_pendCount, nI c, f_commits, A, B, M, upd a_size t (nI Q.length), a_relKind, a_relLeft, a_relRight, a_relFirst, a_relSecond, a_pendTable, a_pendA, a_pendB, a_pendN, a_accA, a_accB, a_accM))
    (hno : ∀ A B M, vw_fr 24 t a_rowA A → vw_fr 24 t a_rowB B → vw_fr 24 t a_rowM M → ¬ vw_fits vn Rx Mx → post 0 (f_width, f_relSlots, f_emptyList, f_accRoom, f_leastInt, f_tableCount, f_maxViews, nI Rx, nI Mx, f_side, f_viewCount, f_pendCount, nI c, f_commits, A, B, M, a_size, a_relKind, a_relLeft, a_relRight, a_relFirst, a_relSecond, a_pendTable, a_pendA, a_pendB, a_pendN, a_accA, a_accB, a_accM)) :
    wpX_settle post (f_width, f_relSlots, f_emptyList, f_accRoom, f_leastInt, f_tableCount, f_maxViews, nI Rx, nI Mx, f_side, f_viewCount, f_pendCount, nI c, f_commits, a_rowA, a_rowB, a_rowM, a_size, a_relKind, a_relLeft, a_relRight, a_relFirst, a_relSecond, a_pendTable, a_pendA, a_pendB, a_pendN, a_accA, a_accB, a_accM) (nI o) (nI t) := by
  refine nm_r (e' := nI (o * 24)) (pk_mul o 24) (nm_r (e' := nI (t * 24)) (pk_mul t 24) ⟨vp_in_nI ho (by decide), nm_r (e' := nI O.length) ?_ ⟨O.length + C.length + 1, ?_⟩⟩)
  · rw [nI_clamp (by omega)]; exact H.1
  · exact vw_sl_loop ho ht hot hR hM hO hC hc HC hvn hok hno _ [] [] O [] C _ _ _ 0 rfl rfl (by omega) (by omega) ⟨List.Pairwise.nil, fun x hx => absurd hx List.not_mem_nil, fun x hx => absurd hx List.not_mem_nil, soO, soC, fun a b => by rw [vw_v_nil, Int.zero_add]; exact hv a b⟩ (fun x hx => absurd hx List.not_mem_nil) (by simp) vw_fr_rf vw_fr_rf vw_fr_rf H (fun i x hx => by simp at hx)
end
def vw_nz (l : List vw_T) : List vw_T := l.filter (fun x => decide (x.2.2 ≠ 0))
theorem vw_nz_v (l : List vw_T) (a b : Int32) : vw_v (vw_nz l) a b = vw_v l a b := by
  induction l with
  | nil => rfl
  | cons x l ih =>
    unfold vw_nz at ih ⊢
    by_cases c : x.2.2 = 0
    · rw [List.filter_cons_of_neg (by simp [c]), vw_v_cons, c, Int.mul_zero, Int.zero_add]; exact ih
    · rw [List.filter_cons_of_pos (by simp [c]), vw_v_cons, vw_v_cons, ih]
theorem vw_nz_so {l : List vw_T} (h : vw_so l) : vw_so (vw_nz l) := List.Pairwise.filter _ h
theorem vw_nz_ne {l : List vw_T} {x : vw_T} (h : x ∈ vw_nz l) : x.2.2 ≠ 0 := by
  have := (List.mem_filter.mp h).2
  simpa using this
theorem vw_nz_len {C O Q : List vw_T} (soC : vw_so C) (pO : vw_ps O) (pQ : vw_ps Q) (h : ∀ a b, vw_v Q a b = vw_v O a b + vw_v C a b) (hO : O.length ≤ 12) (hQ : Q.length ≤ 12) : (vw_nz C).length ≤ 24 := by
  have nd := vw_so_nd (vw_nz_so soC)
  have e := vw_cnt (l := O ++ Q) (v := fun a b => vw_v (vw_nz C) a b) (P := (vw_nz C).map (fun x => (x.1, x.2.1))) ?_ (vw_rows_nd nd) ?_
  · rw [List.length_map, List.length_append] at e
    omega
  · intro a b z
    rw [vw_v_app]
    have z2 : vw_v C a b ≠ 0 := by rw [← vw_nz_v]; exact z
    have h1 := h a b
    have h2 := vw_v_nn pO a b
    have h3 := vw_v_nn pQ a b
    omega
  · intro x hx
    obtain ⟨y, hy, rfl⟩ := List.mem_map.mp hx
    show vw_v (vw_nz C) y.1 y.2.1 ≠ 0
    rw [vw_v_in nd hy]
    exact vw_nz_ne hy
section
variable {f_width f_relSlots f_emptyList f_accRoom f_leastInt f_tableCount f_maxViews f_maxRows f_maxMult f_side f_viewCount f_pendCount f_accCount f_commits : Int32} {a_rowA a_rowB a_rowM a_size a_relKind a_relLeft a_relRight a_relFirst a_relSecond a_pendTable a_pendA a_pendB a_pendN a_accA a_accB : Nat → Int32} {a_accM : Nat → Int64}
theorem vw_sd_loop {post : SX → Prop} {C : List vw_T} {t c : Nat} {A0 B0 M0 : Nat → Int32} (ht : t < 45) (hC : C.length = c) (hc : c ≤ 576) (HC : ∀ i x, C[i]? = some x → a_accA i = x.1 ∧ a_accB i = x.2.1 ∧ a_accM i = Int64.ofInt x.2.2) (hb : ∀ x, x ∈ C → -2147483648 ≤ x.2.2 ∧ x.2.2 < 2147483648) (hZ : (vw_nz C).length ≤ 24)
    (hp : ∀ A B M, vw_fr 24 t A0 A → vw_fr 24 t B0 B → vw_fr 24 t M0 M → vw_H 24 A B M (upd a_size t (nI (vw_nz C).length)) t (vw_nz C) → post (f_width, f_relSlots, f_emptyList, f_accRoom, f_leastInt, f_tableCount, f_maxViews, f_maxRows, f_maxMult, f_side, f_viewCount, f_pendCount, nI c, f_commits, A, B, M, upd a_size t (nI (vw_nz C).length), a_relKind, a_relLeft, a_relRight, a_relFirst, a_relSecond, a_pendTable, a_pendA, a_pendB, a_pendN, a_accA, a_accB, a_accM)) :
    ∀ (C2 C1 : List vw_T) (n : Nat) (A B M : Nat → Int32), C = C1 ++ C2 → C2.length < n → vw_fr 24 t A0 A → vw_fr 24 t B0 B → vw_fr 24 t M0 M → vw_h 24 A B M t (vw_nz C1) →
    wX_storeDelta_10 post (nI t) (nI (t * 24)) f_width f_relSlots f_emptyList f_accRoom f_leastInt f_tableCount f_maxViews f_maxRows f_maxMult f_side f_viewCount f_pendCount (nI c) f_commits n (nI (vw_nz C1).length) (nI C1.length) A B M a_size a_relKind a_relLeft a_relRight a_relFirst a_relSecond a_pendTable a_pendA a_pendB a_pendN a_accA a_accB a_accM := by
  intro C2
  induction C2 with
  | nil =>
    intro C1 n A B M e hn fA fB fM hh
    obtain ⟨n, rfl⟩ : ∃ m, n = m + 1 := ⟨n - 1, by omega⟩
    rw [List.append_nil] at e
    subst e
    exact br_t (nI_le (by omega) (by omega)) ⟨vp_in_nI ht (by decide), nm_r (e' := upd a_size t (nI (vw_nz C).length)) (by rw [nI_clamp (by omega)]) (hp A B M fA fB fM ⟨pk_us, hZ, hh⟩)⟩
  | cons x C2 ih =>
    intro C1 n A B M e hn fA fB fM hh
    obtain ⟨n, rfl⟩ : ∃ m, n = m + 1 := ⟨n - 1, by omega⟩
    have hx : C[C1.length]? = some x := by rw [e]; exact vw_mid _ _ _
    have hH := HC _ x hx
    have hlt := vw_ix hx
    have hbx := hb x (List.mem_of_getElem? hx)
    rw [List.length_cons] at hn
    have hi : vp_in (nI C1.length) 576 := vp_in_nI (by omega) (by decide)
    refine br_f (nI_ge (by omega) (by omega)) ?_
    rw [nI_clamp (n := C1.length) (by omega), hH.1, hH.2.1, hH.2.2]
    refine ⟨hi, ?_⟩
    by_cases c1 : x.2.2 = 0
    · refine br_t ((vw_l64eq0 hbx.1 hbx.2).mpr c1) (nm_r (nI_1 _) ?_)
      have ez : vw_nz (C1 ++ [x]) = vw_nz C1 := by
        unfold vw_nz
        rw [List.filter_append, List.filter_cons_of_neg (by simp [c1]), List.filter_nil, List.append_nil]
      have g := ih (C1 ++ [x]) n A B M (by rw [e]; simp) (by omega) fA fB fM (by rw [ez]; exact hh)
      rw [ez, vw_len1] at g
      exact g
    · have ez : vw_nz (C1 ++ [x]) = vw_nz C1 ++ [x] := by
        unfold vw_nz
        rw [List.filter_append, List.filter_cons_of_pos (by simp [c1]), List.filter_nil]
      have ez2 : (vw_nz C1).length + 1 ≤ (vw_nz C).length := by
        have e2 : C = (C1 ++ [x]) ++ C2 := by rw [e]; simp
        have e3 : vw_nz C = vw_nz (C1 ++ [x]) ++ vw_nz C2 := by
          rw [e2]; unfold vw_nz; rw [List.filter_append]
        rw [e3, ez, List.length_append, vw_len1]
        omega
      have hi2 : vp_in (nI (t * 24) + nI (vw_nz C1).length) 1080 := by rw [nI_add]; exact vp_in_nI (by omega) (by decide)
      have ei : (nI (t * 24) + nI (vw_nz C1).length).toNatClampNeg = t * 24 + (vw_nz C1).length := by rw [nI_add, nI_clamp (by omega)]
      refine br_f (fun z => c1 ((vw_l64eq0 hbx.1 hbx.2).mp z)) (br_f (nI_ge (b := 24) (by omega) (by decide)) ⟨hi, hi2, nm_r (e' := upd A (t * 24 + (vw_nz C1).length) x.1) (by rw [ei]) ⟨hi, hi2, nm_r (e' := upd B (t * 24 + (vw_nz C1).length) x.2.1) (by rw [ei]) ⟨hi, hi2, nm_r (e' := upd M (t * 24 + (vw_nz C1).length) (Int64.ofInt x.2.2).toInt32) (by rw [ei]) (nm_r (nI_1 _) (nm_r (nI_1 _) ?_))⟩⟩⟩)
      have g := ih (C1 ++ [x]) n _ _ _ (by rw [e]; simp) (by omega) (vw_fr_u (x := x.1) fA (show (vw_nz C1).length < 24 by omega)) (vw_fr_u (x := x.2.1) fB (show (vw_nz C1).length < 24 by omega)) (vw_fr_u (x := (Int64.ofInt x.2.2).toInt32) fM (show (vw_nz C1).length < 24 by omega)) (by rw [ez]; exact vw_h_s hh rfl rfl (vw_l64i hbx.1 hbx.2))
      rw [ez, vw_len1, vw_len1] at g
      exact g
theorem vw_sd {post : SX → Prop} {C : List vw_T} {t c : Nat} (ht : t < 45) (hC : C.length = c) (hc : c ≤ 576) (HC : ∀ i x, C[i]? = some x → a_accA i = x.1 ∧ a_accB i = x.2.1 ∧ a_accM i = Int64.ofInt x.2.2) (hb : ∀ x, x ∈ C → -2147483648 ≤ x.2.2 ∧ x.2.2 < 2147483648) (hZ : (vw_nz C).length ≤ 24)
    (hp : ∀ A B M, vw_fr 24 t a_rowA A → vw_fr 24 t a_rowB B → vw_fr 24 t a_rowM M → vw_H 24 A B M (upd a_size t (nI (vw_nz C).length)) t (vw_nz C) → post (f_width, f_relSlots, f_emptyList, f_accRoom, f_leastInt, f_tableCount, f_maxViews, f_maxRows, f_maxMult, f_side, f_viewCount, f_pendCount, nI c, f_commits, A, B, M, upd a_size t (nI (vw_nz C).length), a_relKind, a_relLeft, a_relRight, a_relFirst, a_relSecond, a_pendTable, a_pendA, a_pendB, a_pendN, a_accA, a_accB, a_accM)) :
    wpX_storeDelta post (f_width, f_relSlots, f_emptyList, f_accRoom, f_leastInt, f_tableCount, f_maxViews, f_maxRows, f_maxMult, f_side, f_viewCount, f_pendCount, nI c, f_commits, a_rowA, a_rowB, a_rowM, a_size, a_relKind, a_relLeft, a_relRight, a_relFirst, a_relSecond, a_pendTable, a_pendA, a_pendB, a_pendN, a_accA, a_accB, a_accM) (nI t) := by
  refine nm_r (e' := nI (t * 24)) (pk_mul t 24) ⟨C.length + 1, ?_⟩
  exact vw_sd_loop ht hC hc HC hb hZ hp C [] _ _ _ _ rfl (by omega) vw_fr_rf vw_fr_rf vw_fr_rf (fun i x hx => by simp [vw_nz] at hx)
end
end
section
def vw_C (A B N : Nat → Int32) (c K : Nat) (V : Int32 → Int32 → Int) : Prop :=
  c ≤ K ∧ (∀ i j, i < j → j < c → vw_k (A i) (B i) ≠ vw_k (A j) (B j)) ∧ (∀ i, i < c → N i = Int32.ofInt (V (A i) (B i))) ∧ (∀ a b, (∀ i, i < c → ¬ (A i = a ∧ B i = b)) → Int32.ofInt (V a b) = 0)
theorem vw_C_eq {A B N : Nat → Int32} {c K K' : Nat} {V V' : Int32 → Int32 → Int} (h : vw_C A B N c K V) (hK : K ≤ K') (e : ∀ a b, V' a b = V a b) : vw_C A B N c K' V' :=
  ⟨Nat.le_trans h.1 hK, h.2.1, fun i hi => by rw [e]; exact h.2.2.1 i hi, fun a b hn => by rw [e]; exact h.2.2.2 a b hn⟩
theorem vw_C_0 (A B N : Nat → Int32) : vw_C A B N 0 0 (fun _ _ => 0) :=
  ⟨Nat.le_refl 0, fun i j _ h => absurd h (by omega), fun i h => absurd h (by omega), fun _ _ _ => rfl⟩
theorem vw_C_up {A B N : Nat → Int32} {c K k : Nat} {V : Int32 → Int32 → Int} {a b : Int32} (m : Int) (h : vw_C A B N c K V) (hk : k < c) (ea : A k = a) (eb : B k = b) :
    vw_C A B (upd N k (N k + Int32.ofInt m)) c (K + 1) (fun p q => V p q + vw_d p q a b * m) := by
  obtain ⟨h1, h2, h3, h4⟩ := h
  refine ⟨by omega, h2, fun i hi => ?_, fun p q hn => ?_⟩
  · dsimp only
    by_cases c1 : i = k
    · subst c1
      rw [pk_us, h3 i hi, ea, eb, vw_d_1, Int.one_mul, Int32.ofInt_add]
    · have ne : vw_k a b ≠ vw_k (A i) (B i) := by
        rw [← ea, ← eb]
        rcases Nat.lt_or_gt_of_ne c1 with c2 | c2
        · exact fun z => h2 i k c2 hk z.symm
        · exact h2 k i c2 hi
      rw [pk_un c1, vw_d_k ne, Int.zero_mul, Int.add_zero]; exact h3 i hi
  · dsimp only
    rw [vw_d_0 (fun z => hn k hk ⟨ea.trans z.1, eb.trans z.2⟩), Int.zero_mul, Int.add_zero]
    exact h4 p q hn
theorem vw_C_in {A B N : Nat → Int32} {c K : Nat} {V : Int32 → Int32 → Int} {a b : Int32} (m : Int) (h : vw_C A B N c K V) (hn : ∀ i, i < c → ¬ (A i = a ∧ B i = b)) :
    vw_C (upd A c a) (upd B c b) (upd N c (Int32.ofInt m)) (c + 1) (K + 1) (fun p q => V p q + vw_d p q a b * m) := by
  obtain ⟨h1, h2, h3, h4⟩ := h
  have abs : ∀ i, i < c → vw_k a b ≠ vw_k (A i) (B i) := fun i hi z => hn i hi ⟨(vw_k_eq.mp z).1.symm, (vw_k_eq.mp z).2.symm⟩
  refine ⟨by omega, fun i j hij hj => ?_, fun i hi => ?_, fun p q hq => ?_⟩
  · rw [pk_un (j := i) (by omega), pk_un (j := i) (by omega)]
    rcases Nat.lt_or_ge j c with c1 | c1
    · rw [pk_un (by omega), pk_un (by omega)]; exact h2 i j hij c1
    · have e : j = c := by omega
      subst e
      rw [pk_us, pk_us]
      exact fun z => abs i hij z.symm
  · dsimp only
    rcases Nat.lt_or_ge i c with c1 | c1
    · rw [pk_un (by omega), pk_un (by omega), pk_un (by omega), vw_d_k (abs i c1), Int.zero_mul, Int.add_zero]; exact h3 i c1
    · have e : i = c := by omega
      subst e
      rw [pk_us, pk_us, pk_us, vw_d_1, Int.one_mul, Int32.ofInt_add, h4 a b hn, Int32.zero_add]
  · have n1 : ¬ (a = p ∧ b = q) := fun z => hq c (by omega) (by rw [pk_us, pk_us]; exact z)
    dsimp only
    rw [vw_d_0 n1, Int.zero_mul, Int.add_zero]
    refine h4 p q (fun i hi z => hq i (by omega) ?_)
    rw [pk_un (by omega), pk_un (by omega)]
    exact z
theorem vw_C_list {A B N : Nat → Int32} {c K : Nat} {V : Int32 → Int32 → Int} (h : vw_C A B N c K V) (hb : ∀ a b, -2147483648 ≤ V a b ∧ V a b < 2147483648) :
    ∃ C : List vw_T, C.length = c ∧ vw_nd C ∧ (∀ i x, C[i]? = some x → A i = x.1 ∧ B i = x.2.1 ∧ (N i).toInt = x.2.2) ∧ (∀ a b, vw_v C a b = V a b) := by
  obtain ⟨h1, h2, h3, h4⟩ := h
  have hix : ∀ i x, ((List.range c).map (fun i => ((A i, B i, V (A i) (B i)) : vw_T)))[i]? = some x → i < c ∧ x = (A i, B i, V (A i) (B i)) := by
    intro i x hx
    rw [List.getElem?_map] at hx
    by_cases hi : i < c
    · rw [List.getElem?_range hi] at hx
      exact ⟨hi, (Option.some.inj hx).symm⟩
    · rw [List.getElem?_eq_none (by rw [List.length_range]; omega)] at hx
      exact absurd hx (by simp)
  have nd : vw_nd ((List.range c).map (fun i => ((A i, B i, V (A i) (B i)) : vw_T))) := by
    unfold vw_nd
    rw [List.pairwise_map]
    refine List.Pairwise.imp_of_mem ?_ List.pairwise_lt_range
    intro i j _ hj hij
    exact h2 i j hij (List.mem_range.mp hj)
  refine ⟨(List.range c).map (fun i => (A i, B i, V (A i) (B i))), by simp, nd, fun i x hx => ?_, fun a b => ?_⟩
  · obtain ⟨hi, rfl⟩ := hix i x hx
    have b1 := hb (A i) (B i)
    refine ⟨rfl, rfl, ?_⟩
    rw [h3 i hi, Int32.toInt_ofInt_of_le (by omega) (by omega)]
  · rcases Classical.em (∃ i, i < c ∧ A i = a ∧ B i = b) with ⟨i, hi, rfl, rfl⟩ | hn
    · exact vw_v_in (x := (A i, B i, V (A i) (B i))) nd (List.mem_map.mpr ⟨i, List.mem_range.mpr hi, rfl⟩)
    · rw [vw_v_none (fun x hx e => ?_)]
      · have h5 := h4 a b (fun i hi z => hn ⟨i, hi, z⟩)
        have h6 := hb a b
        have h7 := congrArg Int32.toInt h5
        rw [Int32.toInt_ofInt_of_le (by omega) (by omega)] at h7
        exact h7.symm
      · obtain ⟨i, hi, rfl⟩ := List.mem_map.mp hx
        exact hn ⟨i, List.mem_range.mp hi, vw_k_eq.mp e⟩
theorem vw_e12 (g i : Nat) : nI g * 12 + nI i = nI (g * 12 + i) := (congrArg (fun z => z + nI i) (pk_mul g 12)).trans (nI_add _ _)
section
variable {f_tables f_maxViews f_maxRows f_maxMult f_views f_commits f_pendCount f_calcSize : Int32} {a_kinds a_lefts a_rights a_thirds a_fourths a_size a_rowA a_rowB a_rowN a_pendT a_pendA a_pendB a_pendN a_calcA a_calcB a_calcN : Nat → Int32}
theorem vw_yadd_loop {post : SY → Prop} {c K : Nat} {V : Int32 → Int32 → Int} {a b : Int32} {m : Int} (h : vw_C a_calcA a_calcB a_calcN c K V) (hK : K < 144)
    (hp : ∀ c' A' B' N', vw_C A' B' N' c' (K + 1) (fun p q => V p q + vw_d p q a b * m) → post (f_tables, f_maxViews, f_maxRows, f_maxMult, f_views, f_commits, f_pendCount, nI c', a_kinds, a_lefts, a_rights, a_thirds, a_fourths, a_size, a_rowA, a_rowB, a_rowN, a_pendT, a_pendA, a_pendB, a_pendN, A', B', N')) :
    ∀ d i n, i + d = c → d < n → (∀ j, j < i → ¬ (a_calcA j = a ∧ a_calcB j = b)) → wY_add_3 post a b (Int32.ofInt m) f_tables f_maxViews f_maxRows f_maxMult f_views f_commits f_pendCount (nI c) a_kinds a_lefts a_rights a_thirds a_fourths a_size a_rowA a_rowB a_rowN a_pendT a_pendA a_pendB a_pendN a_calcA a_calcB a_calcN n (nI i) := by
  have hc := h.1
  intro d
  induction d with
  | zero =>
    intro i n hd hn hj
    obtain ⟨n, rfl⟩ : ∃ m, n = m + 1 := ⟨n - 1, by omega⟩
    have e : i = c := by omega
    subst e
    have hi : vp_in (nI i) 144 := vp_in_nI (by omega) (by decide)
    refine br_t (nI_le (by omega) (by omega)) (br_f (nI_ge (b := 144) (by omega) (by decide)) ?_)
    rw [nI_clamp (n := i) (by omega)]
    exact ⟨hi, nm_e ⟨hi, nm_e ⟨hi, nm_e (nm_r (nI_1 _) (hp _ _ _ _ (vw_C_in m h hj)))⟩⟩⟩
  | succ d ih =>
    intro i n hd hn hj
    obtain ⟨n, rfl⟩ : ∃ m, n = m + 1 := ⟨n - 1, by omega⟩
    have hi : vp_in (nI i) 144 := vp_in_nI (by omega) (by decide)
    have next : ¬ (a_calcA i = a ∧ a_calcB i = b) → wY_add_3 post a b (Int32.ofInt m) f_tables f_maxViews f_maxRows f_maxMult f_views f_commits f_pendCount (nI c) a_kinds a_lefts a_rights a_thirds a_fourths a_size a_rowA a_rowB a_rowN a_pendT a_pendA a_pendB a_pendN a_calcA a_calcB a_calcN n (nI (i + 1)) := fun ne => ih (i + 1) n (by omega) (by omega) (fun j h1 => by
      rcases Nat.lt_or_ge j i with c1 | c1
      · exact hj j c1
      · have e : j = i := by omega
        subst e
        exact ne)
    refine br_f (nI_ge (by omega) (by omega)) ?_
    rw [nI_clamp (n := i) (by omega)]
    refine ⟨hi, ?_⟩
    by_cases c1 : a_calcA i = a
    · refine br_t c1 ⟨hi, ?_⟩
      by_cases c2 : a_calcB i = b
      · exact br_t c2 ⟨hi, hi, nm_e (hp _ _ _ _ (vw_C_up m h (by omega) c1 c2))⟩
      · exact br_f c2 (nm_r (nI_1 _) (next (fun z => c2 z.2)))
    · exact br_f c1 (nm_r (nI_1 _) (next (fun z => c1 z.1)))
theorem vw_yadd {post : SY → Prop} {c K : Nat} {V : Int32 → Int32 → Int} {a b m' : Int32} {m : Int} (hm : m' = Int32.ofInt m) (h : vw_C a_calcA a_calcB a_calcN c K V) (hK : K < 144)
    (hp : ∀ c' A' B' N', vw_C A' B' N' c' (K + 1) (fun p q => V p q + vw_d p q a b * m) → post (f_tables, f_maxViews, f_maxRows, f_maxMult, f_views, f_commits, f_pendCount, nI c', a_kinds, a_lefts, a_rights, a_thirds, a_fourths, a_size, a_rowA, a_rowB, a_rowN, a_pendT, a_pendA, a_pendB, a_pendN, A', B', N')) : wpY_add post (f_tables, f_maxViews, f_maxRows, f_maxMult, f_views, f_commits, f_pendCount, nI c, a_kinds, a_lefts, a_rights, a_thirds, a_fourths, a_size, a_rowA, a_rowB, a_rowN, a_pendT, a_pendA, a_pendB, a_pendN, a_calcA, a_calcB, a_calcN) a b m' := by
  subst hm
  exact ⟨c + 1, vw_yadd_loop h hK hp c 0 (c + 1) (by omega) (by omega) (fun j hj => absurd hj (by omega))⟩
theorem vw_yab_loop {post : SY → Prop} {L : List vw_T} {g : Nat} {sg : Int} (hg : g < 33) (H : vw_H 12 a_rowA a_rowB a_rowN a_size g L) :
    ∀ (Q P : List vw_T) (n c K : Nat) (V : Int32 → Int32 → Int) (A B N : Nat → Int32), L = P ++ Q → Q.length < n → vw_C A B N c K V → K + Q.length ≤ 144 →
    (∀ c' A' B' N', vw_C A' B' N' c' (K + Q.length) (fun p q => V p q + sg * vw_v Q p q) → post (f_tables, f_maxViews, f_maxRows, f_maxMult, f_views, f_commits, f_pendCount, nI c', a_kinds, a_lefts, a_rights, a_thirds, a_fourths, a_size, a_rowA, a_rowB, a_rowN, a_pendT, a_pendA, a_pendB, a_pendN, A', B', N')) →
    wY_addBag_2 post (nI g) (Int32.ofInt sg) n (nI P.length) f_tables f_maxViews f_maxRows f_maxMult f_views f_commits f_pendCount (nI c) a_kinds a_lefts a_rights a_thirds a_fourths a_size a_rowA a_rowB a_rowN a_pendT a_pendA a_pendB a_pendN A B N := by
  have hw := H.2.1
  have eg : (nI g).toNatClampNeg = g := nI_clamp (by omega)
  intro Q
  induction Q with
  | nil =>
    intro P n c K V A B N e hn h hK hp
    obtain ⟨n, rfl⟩ : ∃ m, n = m + 1 := ⟨n - 1, by omega⟩
    have hl1 : L.length = P.length := by rw [e, List.append_nil]
    refine And.intro (vp_in_nI hg (by decide)) (br_t ?_ (hp c A B N (vw_C_eq h (by omega) (fun a b => by rw [vw_v_nil]; omega))))
    rw [eg, H.1]; exact nI_le (by omega) (by omega)
  | cons x Q ih =>
    intro P n c K V A B N e hn h hK hp
    obtain ⟨n, rfl⟩ : ∃ m, n = m + 1 := ⟨n - 1, by omega⟩
    have hx : L[P.length]? = some x := by rw [e]; exact vw_mid _ _ _
    have hH := H.2.2 _ x hx
    have hlt := vw_ix hx
    rw [List.length_cons] at hn hK hp
    have hi : vp_in (nI (g * 12 + P.length)) 396 := vp_in_nI (by omega) (by decide)
    refine And.intro (vp_in_nI hg (by decide)) (br_f ?_ (nm_r (vw_e12 g P.length) ?_))
    · rw [eg, H.1]; exact nI_ge hlt (by omega)
    rw [nI_clamp (by omega), hH.1, hH.2.1]
    refine ⟨hi, hi, hi, vw_yadd (m := sg * x.2.2) (by rw [Int32.ofInt_mul, vw_i32 hH.2.2]) h (by omega) (fun c' A' B' N' h' => nm_r (nI_1 _) ?_)⟩
    have g := ih (P ++ [x]) n c' (K + 1) _ A' B' N' (by rw [e]; simp) (by omega) h' (by omega) (fun c2 A2 B2 N2 h2 => hp c2 A2 B2 N2 (vw_C_eq h2 (by omega) (fun a b => by
      rw [vw_v_cons, Int.mul_add, Int.mul_left_comm]; omega)))
    rw [vw_len1] at g
    exact g
theorem vw_yab {post : SY → Prop} {L : List vw_T} {g c K : Nat} {sg : Int} {sg' : Int32} {V : Int32 → Int32 → Int} (hs : sg' = Int32.ofInt sg) (hg : g < 33) (H : vw_H 12 a_rowA a_rowB a_rowN a_size g L) (h : vw_C a_calcA a_calcB a_calcN c K V) (hK : K + L.length ≤ 144)
    (hp : ∀ c' A' B' N', vw_C A' B' N' c' (K + L.length) (fun p q => V p q + sg * vw_v L p q) → post (f_tables, f_maxViews, f_maxRows, f_maxMult, f_views, f_commits, f_pendCount, nI c', a_kinds, a_lefts, a_rights, a_thirds, a_fourths, a_size, a_rowA, a_rowB, a_rowN, a_pendT, a_pendA, a_pendB, a_pendN, A', B', N')) : wpY_addBag post (f_tables, f_maxViews, f_maxRows, f_maxMult, f_views, f_commits, f_pendCount, nI c, a_kinds, a_lefts, a_rights, a_thirds, a_fourths, a_size, a_rowA, a_rowB, a_rowN, a_pendT, a_pendA, a_pendB, a_pendN, a_calcA, a_calcB, a_calcN) (nI g) sg' := by
  subst hs
  exact ⟨L.length + 1, vw_yab_loop hg H L [] _ c K V _ _ _ rfl (by omega) h hK hp⟩
theorem vw_yni_loop {post : Int32 → Prop} {L : List vw_T} {g : Nat} {a b : Int32} (hg : g < 33) (H : vw_H 12 a_rowA a_rowB a_rowN a_size g L) (nd : vw_nd L) (hp : ∀ r : Int32, r.toInt = vw_v L a b → post r) :
    ∀ (Q P : List vw_T) (n : Nat), L = P ++ Q → Q.length < n → (∀ x, x ∈ P → ¬ (x.1 = a ∧ x.2.1 = b)) → wY_numberIn_3 post (nI g) a b f_tables f_maxViews f_maxRows f_maxMult f_views f_commits f_pendCount f_calcSize a_kinds a_lefts a_rights a_thirds a_fourths a_size a_rowA a_rowB a_rowN a_pendT a_pendA a_pendB a_pendN a_calcA a_calcB a_calcN n (nI P.length) := by
  have hw := H.2.1
  have eg : (nI g).toNatClampNeg = g := nI_clamp (by omega)
  intro Q
  induction Q with
  | nil =>
    intro P n e hn hP
    obtain ⟨n, rfl⟩ : ∃ m, n = m + 1 := ⟨n - 1, by omega⟩
    rw [List.append_nil] at e
    subst e
    refine And.intro (vp_in_nI hg (by decide)) (br_t ?_ (hp 0 ?_))
    · rw [eg, H.1]; exact nI_le (by omega) (by omega)
    · rw [vw_v_none (fun x hx z => hP x hx (vw_k_eq.mp z))]; rfl
  | cons x Q ih =>
    intro P n e hn hP
    obtain ⟨n, rfl⟩ : ∃ m, n = m + 1 := ⟨n - 1, by omega⟩
    have hx : L[P.length]? = some x := by rw [e]; exact vw_mid _ _ _
    have hH := H.2.2 _ x hx
    have hlt := vw_ix hx
    rw [List.length_cons] at hn
    have hi : vp_in (nI (g * 12 + P.length)) 396 := vp_in_nI (by omega) (by decide)
    have next : ¬ (x.1 = a ∧ x.2.1 = b) → wY_numberIn_3 post (nI g) a b f_tables f_maxViews f_maxRows f_maxMult f_views f_commits f_pendCount f_calcSize a_kinds a_lefts a_rights a_thirds a_fourths a_size a_rowA a_rowB a_rowN a_pendT a_pendA a_pendB a_pendN a_calcA a_calcB a_calcN n (nI (P.length + 1)) := fun ne => by
      have g := ih (P ++ [x]) n (by rw [e]; simp) (by omega) (fun y hy => by
        rcases List.mem_append.mp hy with hy | hy
        · exact hP y hy
        · rw [List.mem_singleton.mp hy]; exact ne)
      rw [vw_len1] at g
      exact g
    refine And.intro (vp_in_nI hg (by decide)) (br_f ?_ ?_)
    · rw [eg, H.1]; exact nI_ge hlt (by omega)
    rw [vw_e12, nI_clamp (by omega), hH.1, hH.2.1]
    refine ⟨hi, ?_⟩
    by_cases c1 : x.1 = a
    · refine br_t c1 ⟨hi, ?_⟩
      by_cases c2 : x.2.1 = b
      · refine br_t c2 ⟨hi, hp _ ?_⟩
        rw [hH.2.2, ← c1, ← c2, vw_v_in nd (List.mem_of_getElem? hx)]
      · exact br_f c2 (nm_r (nI_1 _) (next (fun z => c2 z.2)))
    · exact br_f c1 (nm_r (nI_1 _) (next (fun z => c1 z.1)))
theorem vw_yni {post : Int32 → Prop} {L : List vw_T} {g : Nat} {a b : Int32} (hg : g < 33) (H : vw_H 12 a_rowA a_rowB a_rowN a_size g L) (nd : vw_nd L) (hp : ∀ r : Int32, r.toInt = vw_v L a b → post r) : wpY_numberIn post (f_tables, f_maxViews, f_maxRows, f_maxMult, f_views, f_commits, f_pendCount, f_calcSize, a_kinds, a_lefts, a_rights, a_thirds, a_fourths, a_size, a_rowA, a_rowB, a_rowN, a_pendT, a_pendA, a_pendB, a_pendN, a_calcA, a_calcB, a_calcN) (nI g) a b :=
  ⟨L.length + 1, vw_yni_loop hg H nd hp L [] _ rfl (by omega) (fun x hx => absurd hx List.not_mem_nil)⟩
theorem vw_ycr_loop {post : Int32 → Prop} {C : List vw_T} {c : Nat} (hC : C.length = c) (hc : c ≤ 144) (HC : ∀ i x, C[i]? = some x → a_calcA i = x.1 ∧ a_calcB i = x.2.1 ∧ (a_calcN i).toInt = x.2.2) (hp : post (nI (vw_nz C).length)) :
    ∀ (C2 C1 : List vw_T) (n : Nat), C = C1 ++ C2 → C2.length < n → wY_calcRows_4 post f_tables f_maxViews f_maxRows f_maxMult f_views f_commits f_pendCount (nI c) a_kinds a_lefts a_rights a_thirds a_fourths a_size a_rowA a_rowB a_rowN a_pendT a_pendA a_pendB a_pendN a_calcA a_calcB a_calcN n (nI (vw_nz C1).length) (nI C1.length) := by
  intro C2
  induction C2 with
  | nil =>
    intro C1 n e hn
    obtain ⟨n, rfl⟩ : ∃ m, n = m + 1 := ⟨n - 1, by omega⟩
    rw [List.append_nil] at e
    subst e
    exact br_t (nI_le (by omega) (by omega)) hp
  | cons x C2 ih =>
    intro C1 n e hn
    obtain ⟨n, rfl⟩ : ∃ m, n = m + 1 := ⟨n - 1, by omega⟩
    have hx : C[C1.length]? = some x := by rw [e]; exact vw_mid _ _ _
    have hH := HC _ x hx
    have hlt := vw_ix hx
    rw [List.length_cons] at hn
    have hi : vp_in (nI C1.length) 144 := vp_in_nI (by omega) (by decide)
    refine br_f (nI_ge (by omega) (by omega)) ?_
    rw [nI_clamp (n := C1.length) (by omega)]
    refine ⟨hi, ?_⟩
    have g := ih (C1 ++ [x]) n (by rw [e]; simp) (by omega)
    by_cases c1 : x.2.2 = 0
    · have ez : vw_nz (C1 ++ [x]) = vw_nz C1 := by
        unfold vw_nz
        rw [List.filter_append, List.filter_cons_of_neg (by simp [c1]), List.filter_nil, List.append_nil]
      rw [ez, vw_len1] at g
      refine br_t ?_ (nm_r (nI_1 _) g)
      rw [vw_i32 hH.2.2, c1]; rfl
    · have ez : vw_nz (C1 ++ [x]) = vw_nz C1 ++ [x] := by
        unfold vw_nz
        rw [List.filter_append, List.filter_cons_of_pos (by simp [c1]), List.filter_nil]
      rw [ez, vw_len1, vw_len1] at g
      refine br_f ?_ (nm_r (nI_1 _) (nm_r (nI_1 _) g))
      intro z
      rw [z] at hH
      exact c1 hH.2.2.symm
theorem vw_ycr {post : Int32 → Prop} {C : List vw_T} {c : Nat} (hC : C.length = c) (hc : c ≤ 144) (HC : ∀ i x, C[i]? = some x → a_calcA i = x.1 ∧ a_calcB i = x.2.1 ∧ (a_calcN i).toInt = x.2.2) (hp : post (nI (vw_nz C).length)) : wpY_calcRows post (f_tables, f_maxViews, f_maxRows, f_maxMult, f_views, f_commits, f_pendCount, nI c, a_kinds, a_lefts, a_rights, a_thirds, a_fourths, a_size, a_rowA, a_rowB, a_rowN, a_pendT, a_pendA, a_pendB, a_pendN, a_calcA, a_calcB, a_calcN) :=
  ⟨C.length + 1, vw_ycr_loop hC hc HC hp C [] _ rfl (by omega)⟩
theorem vw_yft_loop {post : Int32 → Prop} {C : List vw_T} {c Rx Mx : Nat} {V : Int32 → Int32 → Int} (hC : C.length = c) (hc : c ≤ 144) (hM : Mx ≤ 9999) (hR : Rx ≤ 12) (HC : ∀ i x, C[i]? = some x → a_calcA i = x.1 ∧ a_calcB i = x.2.1 ∧ (a_calcN i).toInt = x.2.2) (nd : vw_nd C) (hv : ∀ a b, vw_v C a b = V a b)
    (hp1 : vw_fits V Rx Mx → post 1) (hp0 : ¬ vw_fits V Rx Mx → post 0) :
    ∀ (C2 C1 : List vw_T) (n : Nat), C = C1 ++ C2 → C2.length < n → (∀ x, x ∈ C1 → x.2.2 ≤ (Mx : Int)) → wY_fits_2 post f_tables f_maxViews (nI Rx) (nI Mx) f_views f_commits f_pendCount (nI c) a_kinds a_lefts a_rights a_thirds a_fourths a_size a_rowA a_rowB a_rowN a_pendT a_pendA a_pendB a_pendN a_calcA a_calcB a_calcN n (nI C1.length) := by
  intro C2
  induction C2 with
  | nil =>
    intro C1 n e hn hm
    obtain ⟨n, rfl⟩ : ∃ m, n = m + 1 := ⟨n - 1, by omega⟩
    rw [List.append_nil] at e
    subst e
    have hz : (vw_nz C).length ≤ C.length := List.length_filter_le _ _
    refine br_t (nI_le (by omega) (by omega)) (vw_ycr hC hc HC ?_)
    by_cases c1 : Rx < (vw_nz C).length
    · refine br_t (nI_lt c1 (by omega)) (hp0 (vw_fits_not (l := vw_nz C) (List.Pairwise.filter _ nd) (fun x hx => ?_) c1))
      rw [← hv, vw_v_in nd (List.mem_filter.mp hx).1]
      exact vw_nz_ne hx
    · refine br_f (nI_nlt (by omega) (by omega)) (hp1 (vw_fits_of (l := vw_nz C) (fun a b => by rw [vw_nz_v]; exact hv a b) (fun a b => ?_) (by omega)))
      rw [← hv]
      exact vw_v_le nd (Int.natCast_nonneg _) hm a b
  | cons x C2 ih =>
    intro C1 n e hn hm
    obtain ⟨n, rfl⟩ : ∃ m, n = m + 1 := ⟨n - 1, by omega⟩
    have hx : C[C1.length]? = some x := by rw [e]; exact vw_mid _ _ _
    have hH := HC _ x hx
    have hlt := vw_ix hx
    rw [List.length_cons] at hn
    have hi : vp_in (nI C1.length) 144 := vp_in_nI (by omega) (by decide)
    refine br_f (nI_ge (by omega) (by omega)) ?_
    rw [nI_clamp (n := C1.length) (by omega)]
    refine ⟨hi, ?_⟩
    have ec : a_calcN C1.length ≤ nI Mx ↔ x.2.2 ≤ (Mx : Int) := by
      rw [Int32.le_iff_toInt_le, hH.2.2, nI_toInt (by omega)]
    by_cases c1 : x.2.2 ≤ (Mx : Int)
    · have g := ih (C1 ++ [x]) n (by rw [e]; simp) (by omega) (fun y hy => by
        rcases List.mem_append.mp hy with hy | hy
        · exact hm y hy
        · rw [List.mem_singleton.mp hy]; exact c1)
      rw [vw_len1] at g
      exact br_t (ec.mpr c1) (nm_r (nI_1 _) g)
    · refine br_f (fun z => c1 (ec.mp z)) (hp0 (fun z => c1 ?_))
      have := z.1 x.1 x.2.1
      rw [← hv, vw_v_in nd (List.mem_of_getElem? hx)] at this
      exact this
theorem vw_yft {post : Int32 → Prop} {C : List vw_T} {c Rx Mx : Nat} {V : Int32 → Int32 → Int} (hC : C.length = c) (hc : c ≤ 144) (hM : Mx ≤ 9999) (hR : Rx ≤ 12) (HC : ∀ i x, C[i]? = some x → a_calcA i = x.1 ∧ a_calcB i = x.2.1 ∧ (a_calcN i).toInt = x.2.2) (nd : vw_nd C) (hv : ∀ a b, vw_v C a b = V a b)
    (hp1 : vw_fits V Rx Mx → post 1) (hp0 : ¬ vw_fits V Rx Mx → post 0) : wpY_fits post (f_tables, f_maxViews, nI Rx, nI Mx, f_views, f_commits, f_pendCount, nI c, a_kinds, a_lefts, a_rights, a_thirds, a_fourths, a_size, a_rowA, a_rowB, a_rowN, a_pendT, a_pendA, a_pendB, a_pendN, a_calcA, a_calcB, a_calcN) :=
  ⟨C.length + 1, vw_yft_loop hC hc hM hR HC nd hv hp1 hp0 C [] _ rfl (by omega) (fun x hx => absurd hx List.not_mem_nil)⟩
theorem vw_yst_loop {post : SY → Prop} {C : List vw_T} {c g : Nat} {A0 B0 N0 sz0 : Nat → Int32} (hg : g < 33) (hC : C.length = c) (hc : c ≤ 144) (HC : ∀ i x, C[i]? = some x → a_calcA i = x.1 ∧ a_calcB i = x.2.1 ∧ (a_calcN i).toInt = x.2.2) (hn0 : ∀ x, x ∈ C → 0 ≤ x.2.2) (hZ : (vw_nz C).length ≤ 12)
    (hp : ∀ A B N sz, vw_fr 12 g A0 A → vw_fr 12 g B0 B → vw_fr 12 g N0 N → (∀ j, j ≠ g → sz j = sz0 j) → vw_H 12 A B N sz g (vw_nz C) → post (f_tables, f_maxViews, f_maxRows, f_maxMult, f_views, f_commits, f_pendCount, nI c, a_kinds, a_lefts, a_rights, a_thirds, a_fourths, sz, A, B, N, a_pendT, a_pendA, a_pendB, a_pendN, a_calcA, a_calcB, a_calcN)) :
    ∀ (C2 C1 : List vw_T) (n : Nat) (A B N sz : Nat → Int32), C = C1 ++ C2 → C2.length < n → vw_fr 12 g A0 A → vw_fr 12 g B0 B → vw_fr 12 g N0 N → (∀ j, j ≠ g → sz j = sz0 j) → sz g = nI (vw_nz C1).length → vw_h 12 A B N g (vw_nz C1) →
    wY_store_9 post (nI g) f_tables f_maxViews f_maxRows f_maxMult f_views f_commits f_pendCount (nI c) n (nI C1.length) a_kinds a_lefts a_rights a_thirds a_fourths sz A B N a_pendT a_pendA a_pendB a_pendN a_calcA a_calcB a_calcN := by
  have eg : (nI g).toNatClampNeg = g := nI_clamp (by omega)
  have ig : vp_in (nI g) 33 := vp_in_nI hg (by decide)
  intro C2
  induction C2 with
  | nil =>
    intro C1 n A B N sz e hn fA fB fN hs hsg hh
    obtain ⟨n, rfl⟩ : ∃ m, n = m + 1 := ⟨n - 1, by omega⟩
    rw [List.append_nil] at e
    subst e
    exact br_t (nI_le (by omega) (by omega)) (hp A B N sz fA fB fN hs ⟨hsg, hZ, hh⟩)
  | cons x C2 ih =>
    intro C1 n A B N sz e hn fA fB fN hs hsg hh
    obtain ⟨n, rfl⟩ : ∃ m, n = m + 1 := ⟨n - 1, by omega⟩
    have hx : C[C1.length]? = some x := by rw [e]; exact vw_mid _ _ _
    have hH := HC _ x hx
    have hlt := vw_ix hx
    have hx0 := hn0 x (List.mem_of_getElem? hx)
    rw [List.length_cons] at hn
    have hi : vp_in (nI C1.length) 144 := vp_in_nI (by omega) (by decide)
    refine br_f (nI_ge (by omega) (by omega)) ?_
    rw [nI_clamp (n := C1.length) (by omega), eg, hsg]
    refine ⟨hi, ?_⟩
    have ec : a_calcN C1.length ≤ 0 ↔ x.2.2 ≤ 0 := by
      rw [Int32.le_iff_toInt_le, hH.2.2]; exact Iff.rfl
    by_cases c1 : x.2.2 ≤ 0
    · have ez : vw_nz (C1 ++ [x]) = vw_nz C1 := by
        unfold vw_nz
        rw [List.filter_append, List.filter_cons_of_neg (by simp; omega), List.filter_nil, List.append_nil]
      have g := ih (C1 ++ [x]) n A B N sz (by rw [e]; simp) (by omega) fA fB fN hs (by rw [ez]; exact hsg) (by rw [ez]; exact hh)
      rw [vw_len1] at g
      exact br_t (ec.mpr c1) (nm_r (nI_1 _) g)
    · have ez : vw_nz (C1 ++ [x]) = vw_nz C1 ++ [x] := by
        unfold vw_nz
        rw [List.filter_append, List.filter_cons_of_pos (by simp; omega), List.filter_nil]
      have ez2 : (vw_nz C1).length + 1 ≤ (vw_nz C).length := by
        have e2 : C = (C1 ++ [x]) ++ C2 := by rw [e]; simp
        have e3 : vw_nz C = vw_nz (C1 ++ [x]) ++ vw_nz C2 := by
          rw [e2]; unfold vw_nz; rw [List.filter_append]
        rw [e3, ez, List.length_append, vw_len1]
        omega
      have hi2 : vp_in (nI g * 12 + nI (vw_nz C1).length) 396 := by rw [vw_e12]; exact vp_in_nI (by omega) (by decide)
      have ei : (nI g * 12 + nI (vw_nz C1).length).toNatClampNeg = g * 12 + (vw_nz C1).length := by rw [vw_e12, nI_clamp (by omega)]
      rw [ei]
      refine br_f (fun z => c1 (ec.mp z)) ⟨ig, br_f (nI_ge (b := 12) (by omega) (by decide)) ⟨ig, hi, hi2, nm_e ⟨ig, hi, hi2, nm_e ⟨ig, hi, hi2, nm_e ⟨ig, ig, nm_r (e' := upd sz g (nI ((vw_nz C1).length + 1))) (congrArg (upd sz g) (nI_1 _)) (nm_r (nI_1 _) ?_)⟩⟩⟩⟩⟩
      have g := ih (C1 ++ [x]) n _ _ _ (upd sz g (nI ((vw_nz C1).length + 1))) (by rw [e]; simp) (by omega) (vw_fr_u (x := a_calcA C1.length) fA (show (vw_nz C1).length < 12 by omega)) (vw_fr_u (x := a_calcB C1.length) fB (show (vw_nz C1).length < 12 by omega)) (vw_fr_u (x := a_calcN C1.length) fN (show (vw_nz C1).length < 12 by omega)) (fun j hj => by rw [pk_un hj]; exact hs j hj) (by rw [ez, vw_len1]; exact pk_us) (by rw [ez]; exact vw_h_s hh hH.1 hH.2.1 hH.2.2)
      rw [vw_len1] at g
      exact g
theorem vw_yst {post : SY → Prop} {C : List vw_T} {c g : Nat} (hg : g < 33) (hC : C.length = c) (hc : c ≤ 144) (HC : ∀ i x, C[i]? = some x → a_calcA i = x.1 ∧ a_calcB i = x.2.1 ∧ (a_calcN i).toInt = x.2.2) (hn0 : ∀ x, x ∈ C → 0 ≤ x.2.2) (hZ : (vw_nz C).length ≤ 12)
    (hp : ∀ A B N sz, vw_fr 12 g a_rowA A → vw_fr 12 g a_rowB B → vw_fr 12 g a_rowN N → (∀ j, j ≠ g → sz j = a_size j) → vw_H 12 A B N sz g (vw_nz C) → post (f_tables, f_maxViews, f_maxRows, f_maxMult, f_views, f_commits, f_pendCount, nI c, a_kinds, a_lefts, a_rights, a_thirds, a_fourths, sz, A, B, N, a_pendT, a_pendA, a_pendB, a_pendN, a_calcA, a_calcB, a_calcN)) : wpY_store post (f_tables, f_maxViews, f_maxRows, f_maxMult, f_views, f_commits, f_pendCount, nI c, a_kinds, a_lefts, a_rights, a_thirds, a_fourths, a_size, a_rowA, a_rowB, a_rowN, a_pendT, a_pendA, a_pendB, a_pendN, a_calcA, a_calcB, a_calcN) (nI g) := by
  refine And.intro (vp_in_nI hg (by decide)) (nm_r (e' := upd a_size g 0) (by rw [nI_clamp (by omega)]) ⟨C.length + 1, ?_⟩)
  exact vw_yst_loop hg hC hc HC hn0 hZ hp C [] _ _ _ _ _ rfl (by omega) vw_fr_rf vw_fr_rf vw_fr_rf (fun j hj => pk_un hj) pk_us (fun i x hx => by simp [vw_nz] at hx)
end
end
section
theorem vw_prY {R : List vw_T} (p q x y : Int32) (m : Int) : vw_S R (fun z => if z.1 = y then vw_d p q x z.2.1 * (m * z.2.2) else 0) = (if x = p then vw_v R y q else 0) * m := by
  by_cases c : x = p
  · rw [if_pos c, Int.mul_comm]
    unfold vw_v vw_W
    rw [← vw_S_mul]
    refine vw_S_congr (fun z hz => ?_)
    by_cases c2 : z.1 = y
    · rw [if_pos c2]
      have e : vw_d p q x z.2.1 = vw_d y q z.1 z.2.1 := by
        unfold vw_d
        rw [c, c2]
        simp
      rw [e, Int.mul_left_comm]
    · rw [if_neg c2, vw_d_0 (fun n => c2 n.1), Int.zero_mul, Int.mul_zero]
  · rw [if_neg c, Int.zero_mul]
    exact vw_S_zero (fun z hz => by
      by_cases c2 : z.1 = y
      · rw [if_pos c2, vw_d_0 (fun n => c n.1), Int.zero_mul]
      · rw [if_neg c2])
theorem vw_gs_1 (P : List vw_T) (z : vw_T) (a : Int32) (f : Int32 → Int) : vw_gs (P ++ [z]) a f = vw_gs P a f + (if z.1 = a then f z.2.1 else 0) * z.2.2 := by
  unfold vw_gs
  rw [vw_W_app, vw_W_cons, vw_W_nil, Int.add_zero]
section
variable {f_tables f_maxViews f_maxRows f_maxMult f_views f_commits f_pendCount f_calcSize : Int32} {a_kinds a_lefts a_rights a_thirds a_fourths a_size a_rowA a_rowB a_rowN a_pendT a_pendA a_pendB a_pendN a_calcA a_calcB a_calcN : Nat → Int32}
theorem vw_yho {post : Int32 → Prop} {t k a b : Int32} (h1 : vw_sat t k a b = true → post 1) (h0 : vw_sat t k a b = false → post 0) : wpY_holds post (f_tables, f_maxViews, f_maxRows, f_maxMult, f_views, f_commits, f_pendCount, f_calcSize, a_kinds, a_lefts, a_rights, a_thirds, a_fourths, a_size, a_rowA, a_rowB, a_rowN, a_pendT, a_pendA, a_pendB, a_pendN, a_calcA, a_calcB, a_calcN) t k a b := by
  have key : ∀ c : Prop, ∀ _ : Decidable c, vw_sat t k a b = decide c → (c → post 1) ∧ (¬ c → post 0) := fun c _ e => ⟨fun z => h1 (e.trans (decide_eq_true z)), fun z => h0 (e.trans (decide_eq_false z))⟩
  by_cases e0 : t = 0
  · subst e0
    exact br_t rfl (key (a = k) _ rfl)
  refine br_f e0 ?_
  by_cases e1 : t = 1
  · subst e1
    exact br_t rfl (br_c (fun l => (key (a < k) _ rfl).2 (Int32.not_lt.mpr l)) (fun l => (key (a < k) _ rfl).1 (Int32.not_le.mp l)))
  refine br_f e1 ?_
  by_cases e2 : t = 2
  · subst e2
    exact br_t rfl (br_c (fun l => (key (k < a) _ rfl).2 (Int32.not_lt.mpr l)) (fun l => (key (k < a) _ rfl).1 (Int32.not_le.mp l)))
  refine br_f e2 ?_
  by_cases e3 : t = 3
  · subst e3
    exact br_t rfl (key (b = k) _ rfl)
  refine br_f e3 ?_
  by_cases e4 : t = 4
  · subst e4
    exact br_t rfl (br_c (fun l => (key (b < k) _ rfl).2 (Int32.not_lt.mpr l)) (fun l => (key (b < k) _ rfl).1 (Int32.not_le.mp l)))
  refine br_f e4 ?_
  by_cases e5 : t = 5
  · subst e5
    exact br_t rfl (br_c (fun l => (key (k < b) _ rfl).2 (Int32.not_lt.mpr l)) (fun l => (key (k < b) _ rfl).1 (Int32.not_le.mp l)))
  refine br_f e5 ?_
  by_cases e6 : t = 6
  · subst e6
    exact br_t rfl (key (a = b) _ rfl)
  have e : vw_sat t k a b = decide (a < b) := by
    unfold vw_sat
    rw [if_neg e0, if_neg e1, if_neg e2, if_neg e3, if_neg e4, if_neg e5, if_neg e6]
  exact br_f e6 (br_c (fun l => (key _ _ e).2 (Int32.not_lt.mpr l)) (fun l => (key _ _ e).1 (Int32.not_le.mp l)))
theorem vw_yco {post : Int32 → Prop} {t a b : Int32} (h : post (vw_col t a b)) : wpY_column post (f_tables, f_maxViews, f_maxRows, f_maxMult, f_views, f_commits, f_pendCount, f_calcSize, a_kinds, a_lefts, a_rights, a_thirds, a_fourths, a_size, a_rowA, a_rowB, a_rowN, a_pendT, a_pendA, a_pendB, a_pendN, a_calcA, a_calcB, a_calcN) t a b := by
  by_cases e0 : t = 0
  · subst e0
    exact br_t rfl h
  refine br_f e0 ?_
  by_cases e1 : t = 1
  · subst e1
    exact br_t rfl h
  refine br_f e1 ?_
  by_cases e2 : t = 2
  · subst e2
    exact br_t rfl h
  have e : vw_col t a b = a + b := by
    unfold vw_col
    rw [if_neg e0, if_neg e1, if_neg e2]
  rw [e] at h
  exact br_f e2 h
theorem vw_yji_loop {post : SY → Prop} {J : Int32 → Int32 → Int32 → Int32 → Int32 → Int32 → Int32 → Int32 → Int32 → (Nat → Int32) → (Nat → Int32) → (Nat → Int32) → (Nat → Int32) → (Nat → Int32) → (Nat → Int32) → (Nat → Int32) → (Nat → Int32) → (Nat → Int32) → (Nat → Int32) → (Nat → Int32) → (Nat → Int32) → (Nat → Int32) → (Nat → Int32) → (Nat → Int32) → (Nat → Int32) → Prop} {R : List vw_T} {g i : Nat} {x2 x3 x4 x y m' : Int32} {m : Int} (hm : m' = Int32.ofInt m) (hg : g < 33) (H : vw_H 12 a_rowA a_rowB a_rowN a_size g R) :
    ∀ (Q P : List vw_T) (n c K : Nat) (V : Int32 → Int32 → Int) (A B N : Nat → Int32), R = P ++ Q → Q.length < n → vw_C A B N c K V → K + Q.length ≤ 144 →
    (∀ c' A' B' N', vw_C A' B' N' c' (K + Q.length) (fun p q => V p q + vw_S Q (fun z => if z.1 = y then vw_d p q x z.2.1 * (m * z.2.2) else 0)) → J (nI (i + 1)) f_tables f_maxViews f_maxRows f_maxMult f_views f_commits f_pendCount (nI c') a_kinds a_lefts a_rights a_thirds a_fourths a_size a_rowA a_rowB a_rowN a_pendT a_pendA a_pendB a_pendN A' B' N') →
    wY_compute_295 post J x2 x3 x4 (nI g) (nI i) x y m' n (nI P.length) f_tables f_maxViews f_maxRows f_maxMult f_views f_commits f_pendCount (nI c) a_kinds a_lefts a_rights a_thirds a_fourths a_size a_rowA a_rowB a_rowN a_pendT a_pendA a_pendB a_pendN A B N := by
  have hw := H.2.1
  have eg : (nI g).toNatClampNeg = g := nI_clamp (by omega)
  have ig : vp_in (nI g) 33 := vp_in_nI hg (by decide)
  intro Q
  induction Q with
  | nil =>
    intro P n c K V A B N e hn h hK hp
    obtain ⟨n, rfl⟩ : ∃ m, n = m + 1 := ⟨n - 1, by omega⟩
    have hl1 : R.length = P.length := by rw [e, List.append_nil]
    refine And.intro ig (br_t ?_ (nm_r (nI_1 _) (hp c A B N (vw_C_eq h (by omega) (fun a b => Int.add_zero _)))))
    rw [eg, H.1]; exact nI_le (by omega) (by omega)
  | cons z Q ih =>
    intro P n c K V A B N e hn h hK hp
    obtain ⟨n, rfl⟩ : ∃ m, n = m + 1 := ⟨n - 1, by omega⟩
    have hx : R[P.length]? = some z := by rw [e]; exact vw_mid _ _ _
    have hH := H.2.2 _ z hx
    have hlt := vw_ix hx
    rw [List.length_cons] at hn hK hp
    have hi : vp_in (nI (g * 12 + P.length)) 396 := vp_in_nI (by omega) (by decide)
    refine And.intro ig (br_f ?_ ?_)
    · rw [eg, H.1]; exact nI_ge hlt (by omega)
    rw [vw_e12, nI_clamp (by omega), hH.1, hH.2.1]
    refine ⟨hi, ?_⟩
    by_cases c1 : z.1 = y
    · refine br_t c1 ⟨hi, hi, vw_yadd (m := m * z.2.2) (by rw [Int32.ofInt_mul, hm, vw_i32 hH.2.2]) h (by omega) (fun c' A' B' N' h' => nm_r (nI_1 _) ?_)⟩
      have g := ih (P ++ [z]) n c' (K + 1) _ A' B' N' (by rw [e]; simp) (by omega) h' (by omega) (fun c2 A2 B2 N2 h2 => hp c2 A2 B2 N2 (vw_C_eq h2 (by omega) (fun a b => by rw [vw_S_cons, if_pos c1]; omega)))
      rw [vw_len1] at g
      exact g
    · refine br_f c1 (nm_r (nI_1 _) ?_)
      have g := ih (P ++ [z]) n c K _ A B N (by rw [e]; simp) (by omega) h (by omega) (fun c2 A2 B2 N2 h2 => hp c2 A2 B2 N2 (vw_C_eq h2 (by omega) (fun a b => by rw [vw_S_cons, if_neg c1]; omega)))
      rw [vw_len1] at g
      exact g
theorem vw_y1_loop {post : SY → Prop} {L : List vw_T} {l r : Nat} {t f x5 : Int32} (hr : r < 11) (hl : l < 33) (H : vw_H 12 a_rowA a_rowB a_rowN a_size l L) (et : a_thirds r = t) (ef : a_fourths r = f) :
    ∀ (Q P : List vw_T) (n c K : Nat) (V : Int32 → Int32 → Int) (A B N : Nat → Int32), L = P ++ Q → Q.length < n → vw_C A B N c K V → K + Q.length ≤ 144 →
    (∀ c' A' B' N', vw_C A' B' N' c' (K + Q.length) (fun p q => V p q + vw_W Q (fun x y => if vw_sat t f x y = true then vw_d p q x y else 0)) → post (f_tables, f_maxViews, f_maxRows, f_maxMult, f_views, f_commits, f_pendCount, nI c', a_kinds, a_lefts, a_rights, a_thirds, a_fourths, a_size, a_rowA, a_rowB, a_rowN, a_pendT, a_pendA, a_pendB, a_pendN, A', B', N')) →
    wY_compute_139 post (nI r) 1 (nI l) x5 n (nI P.length) f_tables f_maxViews f_maxRows f_maxMult f_views f_commits f_pendCount (nI c) a_kinds a_lefts a_rights a_thirds a_fourths a_size a_rowA a_rowB a_rowN a_pendT a_pendA a_pendB a_pendN A B N := by
  have hw := H.2.1
  have eg : (nI l).toNatClampNeg = l := nI_clamp (by omega)
  have er : (nI r).toNatClampNeg = r := nI_clamp (by omega)
  have ig : vp_in (nI l) 33 := vp_in_nI hl (by decide)
  have ir : vp_in (nI r) 11 := vp_in_nI hr (by decide)
  intro Q
  induction Q with
  | nil =>
    intro P n c K V A B N e hn h hK hp
    obtain ⟨n, rfl⟩ : ∃ m, n = m + 1 := ⟨n - 1, by omega⟩
    have hl1 : L.length = P.length := by rw [e, List.append_nil]
    refine And.intro ig (br_t ?_ (hp c A B N (vw_C_eq h (by omega) (fun a b => Int.add_zero _))))
    rw [eg, H.1]; exact nI_le (by omega) (by omega)
  | cons z Q ih =>
    intro P n c K V A B N e hn h hK hp
    obtain ⟨n, rfl⟩ : ∃ m, n = m + 1 := ⟨n - 1, by omega⟩
    have hx : L[P.length]? = some z := by rw [e]; exact vw_mid _ _ _
    have hH := H.2.2 _ z hx
    have hlt := vw_ix hx
    rw [List.length_cons] at hn hK hp
    have hi : vp_in (nI (l * 12 + P.length)) 396 := vp_in_nI (by omega) (by decide)
    refine And.intro ig (br_f ?_ ?_)
    · rw [eg, H.1]; exact nI_ge hlt (by omega)
    rw [vw_e12, nI_clamp (by omega), hH.1, hH.2.1, vw_i32 hH.2.2, er, et, ef]
    refine ⟨hi, nm_e ⟨hi, nm_e ⟨hi, nm_e (br_t rfl ⟨ir, ir, vw_yho (fun s => ?_) (fun s => ?_)⟩)⟩⟩⟩
    · refine br_f (by decide) (vw_yadd rfl h (by omega) (fun c' A' B' N' h' => nm_r (nI_1 _) ?_))
      have g := ih (P ++ [z]) n c' (K + 1) _ A' B' N' (by rw [e]; simp) (by omega) h' (by omega) (fun c2 A2 B2 N2 h2 => hp c2 A2 B2 N2 (vw_C_eq h2 (by omega) (fun a b => by rw [vw_W_cons, if_pos s]; omega)))
      rw [vw_len1] at g
      exact g
    · refine br_t rfl (nm_r (nI_1 _) ?_)
      have g := ih (P ++ [z]) n c K _ A B N (by rw [e]; simp) (by omega) h (by omega) (fun c2 A2 B2 N2 h2 => hp c2 A2 B2 N2 (vw_C_eq h2 (by omega) (fun a b => by rw [vw_W_cons, if_neg (by rw [s]; decide), Int.zero_mul, Int.zero_add])))
      rw [vw_len1] at g
      exact g
theorem vw_y2_loop {post : SY → Prop} {L : List vw_T} {l r : Nat} {t f x5 : Int32} (hr : r < 11) (hl : l < 33) (H : vw_H 12 a_rowA a_rowB a_rowN a_size l L) (et : a_thirds r = t) (ef : a_fourths r = f) :
    ∀ (Q P : List vw_T) (n c K : Nat) (V : Int32 → Int32 → Int) (A B N : Nat → Int32), L = P ++ Q → Q.length < n → vw_C A B N c K V → K + Q.length ≤ 144 →
    (∀ c' A' B' N', vw_C A' B' N' c' (K + Q.length) (fun p q => V p q + vw_W Q (fun x y => vw_d p q (vw_col t x y) (vw_col f x y))) → post (f_tables, f_maxViews, f_maxRows, f_maxMult, f_views, f_commits, f_pendCount, nI c', a_kinds, a_lefts, a_rights, a_thirds, a_fourths, a_size, a_rowA, a_rowB, a_rowN, a_pendT, a_pendA, a_pendB, a_pendN, A', B', N')) →
    wY_compute_139 post (nI r) 2 (nI l) x5 n (nI P.length) f_tables f_maxViews f_maxRows f_maxMult f_views f_commits f_pendCount (nI c) a_kinds a_lefts a_rights a_thirds a_fourths a_size a_rowA a_rowB a_rowN a_pendT a_pendA a_pendB a_pendN A B N := by
  have hw := H.2.1
  have eg : (nI l).toNatClampNeg = l := nI_clamp (by omega)
  have er : (nI r).toNatClampNeg = r := nI_clamp (by omega)
  have ig : vp_in (nI l) 33 := vp_in_nI hl (by decide)
  have ir : vp_in (nI r) 11 := vp_in_nI hr (by decide)
  intro Q
  induction Q with
  | nil =>
    intro P n c K V A B N e hn h hK hp
    obtain ⟨n, rfl⟩ : ∃ m, n = m + 1 := ⟨n - 1, by omega⟩
    have hl1 : L.length = P.length := by rw [e, List.append_nil]
    refine And.intro ig (br_t ?_ (hp c A B N (vw_C_eq h (by omega) (fun a b => Int.add_zero _))))
    rw [eg, H.1]; exact nI_le (by omega) (by omega)
  | cons z Q ih =>
    intro P n c K V A B N e hn h hK hp
    obtain ⟨n, rfl⟩ : ∃ m, n = m + 1 := ⟨n - 1, by omega⟩
    have hx : L[P.length]? = some z := by rw [e]; exact vw_mid _ _ _
    have hH := H.2.2 _ z hx
    have hlt := vw_ix hx
    rw [List.length_cons] at hn hK hp
    have hi : vp_in (nI (l * 12 + P.length)) 396 := vp_in_nI (by omega) (by decide)
    refine And.intro ig (br_f ?_ ?_)
    · rw [eg, H.1]; exact nI_ge hlt (by omega)
    rw [vw_e12, nI_clamp (by omega), hH.1, hH.2.1, vw_i32 hH.2.2, er, et, ef]
    refine ⟨hi, nm_e ⟨hi, nm_e ⟨hi, nm_e (br_f (by decide) (br_t rfl ⟨ir, vw_yco ⟨ir, vw_yco (vw_yadd rfl h (by omega) (fun c' A' B' N' h' => nm_r (nI_1 _) ?_))⟩⟩))⟩⟩⟩
    have g := ih (P ++ [z]) n c' (K + 1) _ A' B' N' (by rw [e]; simp) (by omega) h' (by omega) (fun c2 A2 B2 N2 h2 => hp c2 A2 B2 N2 (vw_C_eq h2 (by omega) (fun a b => by rw [vw_W_cons]; omega)))
    rw [vw_len1] at g
    exact g
theorem vw_y3_loop {post : SY → Prop} {L R : List vw_T} {l g r : Nat} (hl : l < 33) (hg : g < 33) (H : vw_H 12 a_rowA a_rowB a_rowN a_size l L) (HR : vw_H 12 a_rowA a_rowB a_rowN a_size g R) :
    ∀ (Q P : List vw_T) (n c K : Nat) (V : Int32 → Int32 → Int) (A B N : Nat → Int32), L = P ++ Q → Q.length < n → vw_C A B N c K V → K + Q.length * R.length ≤ 144 →
    (∀ c' A' B' N', vw_C A' B' N' c' (K + Q.length * R.length) (fun p q => V p q + vw_W Q (fun x y => if x = p then vw_v R y q else 0)) → post (f_tables, f_maxViews, f_maxRows, f_maxMult, f_views, f_commits, f_pendCount, nI c', a_kinds, a_lefts, a_rights, a_thirds, a_fourths, a_size, a_rowA, a_rowB, a_rowN, a_pendT, a_pendA, a_pendB, a_pendN, A', B', N')) →
    wY_compute_139 post (nI r) 3 (nI l) (nI g) n (nI P.length) f_tables f_maxViews f_maxRows f_maxMult f_views f_commits f_pendCount (nI c) a_kinds a_lefts a_rights a_thirds a_fourths a_size a_rowA a_rowB a_rowN a_pendT a_pendA a_pendB a_pendN A B N := by
  have hw := H.2.1
  have eg : (nI l).toNatClampNeg = l := nI_clamp (by omega)
  have ig : vp_in (nI l) 33 := vp_in_nI hl (by decide)
  intro Q
  induction Q with
  | nil =>
    intro P n c K V A B N e hn h hK hp
    obtain ⟨n, rfl⟩ : ∃ m, n = m + 1 := ⟨n - 1, by omega⟩
    have hl1 : L.length = P.length := by rw [e, List.append_nil]
    refine And.intro ig (br_t ?_ (hp c A B N (vw_C_eq h (by omega) (fun a b => Int.add_zero _))))
    rw [eg, H.1]; exact nI_le (by omega) (by omega)
  | cons z Q ih =>
    intro P n c K V A B N e hn h hK hp
    obtain ⟨n, rfl⟩ : ∃ m, n = m + 1 := ⟨n - 1, by omega⟩
    have hx : L[P.length]? = some z := by rw [e]; exact vw_mid _ _ _
    have hH := H.2.2 _ z hx
    have hlt := vw_ix hx
    rw [List.length_cons] at hn hK hp
    rw [Nat.add_mul, Nat.one_mul] at hK hp
    have hi : vp_in (nI (l * 12 + P.length)) 396 := vp_in_nI (by omega) (by decide)
    refine And.intro ig (br_f ?_ ?_)
    · rw [eg, H.1]; exact nI_ge hlt (by omega)
    rw [vw_e12, nI_clamp (by omega), hH.1, hH.2.1, vw_i32 hH.2.2]
    refine ⟨hi, nm_e ⟨hi, nm_e ⟨hi, nm_e (br_f (by decide) (br_f (by decide) (br_t rfl ⟨R.length + 1, vw_yji_loop rfl hg HR R [] _ c K V A B N rfl (by omega) h (by omega) (fun c' A' B' N' h' => ?_)⟩)))⟩⟩⟩
    have g := ih (P ++ [z]) n c' (K + R.length) _ A' B' N' (by rw [e]; simp) (by omega) h' (by omega) (fun c2 A2 B2 N2 h2 => hp c2 A2 B2 N2 (vw_C_eq h2 (by omega) (fun a b => by rw [vw_W_cons, vw_prY]; omega)))
    rw [vw_len1] at g
    exact g
theorem vw_y5_loop {post : SY → Prop} {L R : List vw_T} {l g r Mx : Nat} (hM : Mx ≤ 9999) (hl : l < 33) (hg : g < 33) (H : vw_H 12 a_rowA a_rowB a_rowN a_size l L) (HR : vw_H 12 a_rowA a_rowB a_rowN a_size g R) (bL : vw_bg L Mx) (bR : vw_bg R Mx) :
    ∀ (Q P : List vw_T) (n c K : Nat) (V : Int32 → Int32 → Int) (A B N : Nat → Int32), L = P ++ Q → Q.length < n → vw_C A B N c K V → K + Q.length ≤ 144 →
    (∀ c' A' B' N', vw_C A' B' N' c' (K + Q.length) (fun p q => V p q + vw_S Q (fun x => vw_d p q x.1 x.2.1 * vw_f5 L R x.1 x.2.1)) → post (f_tables, f_maxViews, f_maxRows, f_maxMult, f_views, f_commits, f_pendCount, nI c', a_kinds, a_lefts, a_rights, a_thirds, a_fourths, a_size, a_rowA, a_rowB, a_rowN, a_pendT, a_pendA, a_pendB, a_pendN, A', B', N')) →
    wY_compute_139 post (nI r) 5 (nI l) (nI g) n (nI P.length) f_tables f_maxViews f_maxRows f_maxMult f_views f_commits f_pendCount (nI c) a_kinds a_lefts a_rights a_thirds a_fourths a_size a_rowA a_rowB a_rowN a_pendT a_pendA a_pendB a_pendN A B N := by
  have hw := H.2.1
  have eg : (nI l).toNatClampNeg = l := nI_clamp (by omega)
  have ig : vp_in (nI l) 33 := vp_in_nI hl (by decide)
  intro Q
  induction Q with
  | nil =>
    intro P n c K V A B N e hn h hK hp
    obtain ⟨n, rfl⟩ : ∃ m, n = m + 1 := ⟨n - 1, by omega⟩
    have hl1 : L.length = P.length := by rw [e, List.append_nil]
    refine And.intro ig (br_t ?_ (hp c A B N (vw_C_eq h (by omega) (fun a b => Int.add_zero _))))
    rw [eg, H.1]; exact nI_le (by omega) (by omega)
  | cons z Q ih =>
    intro P n c K V A B N e hn h hK hp
    obtain ⟨n, rfl⟩ : ∃ m, n = m + 1 := ⟨n - 1, by omega⟩
    have hx : L[P.length]? = some z := by rw [e]; exact vw_mid _ _ _
    have hH := H.2.2 _ z hx
    have hlt := vw_ix hx
    have hzL := List.mem_of_getElem? hx
    rw [List.length_cons] at hn hK hp
    have hi : vp_in (nI (l * 12 + P.length)) 396 := vp_in_nI (by omega) (by decide)
    refine And.intro ig (br_f ?_ ?_)
    · rw [eg, H.1]; exact nI_ge hlt (by omega)
    have v1 := vw_bg_v bL z.1 z.2.1
    have v2 := vw_bg_v bR z.1 z.2.1
    have v3 := vw_v_in bL.1 hzL
    generalize eN : a_rowN (l * 12 + P.length) = nz at hH
    rw [vw_e12, nI_clamp (by omega), hH.1, hH.2.1, eN]
    refine ⟨hi, nm_e ⟨hi, nm_e ⟨hi, nm_e (br_f (by decide) (br_f (by decide) (br_f (by decide) (br_t rfl (vw_yni hg HR bR.1 (fun r2 e2 => nm_e ?_))))))⟩⟩⟩
    have e3 : (nz - r2).toInt = vw_v L z.1 z.2.1 - vw_v R z.1 z.2.1 := by
      rw [vw_i32sub (by omega) (by omega), e2, hH.2.2, v3]
    by_cases c1 : nz - r2 ≤ 0
    · refine br_t c1 (nm_r (nI_1 _) ?_)
      have c2 : vw_v L z.1 z.2.1 - vw_v R z.1 z.2.1 ≤ 0 := by
        rw [Int32.le_iff_toInt_le, e3] at c1
        exact c1
      have ef : vw_f5 L R z.1 z.2.1 = 0 := by unfold vw_f5; rw [if_neg (by omega)]
      have g := ih (P ++ [z]) n c K _ A B N (by rw [e]; simp) (by omega) h (by omega) (fun c2 A2 B2 N2 h2 => hp c2 A2 B2 N2 (vw_C_eq h2 (by omega) (fun a b => by rw [vw_S_cons, ef, Int.mul_zero]; omega)))
      rw [vw_len1] at g
      exact g
    · have c2 : ¬ vw_v L z.1 z.2.1 - vw_v R z.1 z.2.1 ≤ 0 := fun z => c1 (by
        rw [Int32.le_iff_toInt_le, e3]
        exact z)
      have ef : vw_f5 L R z.1 z.2.1 = vw_v L z.1 z.2.1 - vw_v R z.1 z.2.1 := by unfold vw_f5; rw [if_pos (by omega)]
      refine br_f c1 (vw_yadd (m := vw_f5 L R z.1 z.2.1) (by rw [ef]; exact vw_i32 e3) h (by omega) (fun c' A' B' N' h' => nm_r (nI_1 _) ?_))
      have g := ih (P ++ [z]) n c' (K + 1) _ A' B' N' (by rw [e]; simp) (by omega) h' (by omega) (fun c2 A2 B2 N2 h2 => hp c2 A2 B2 N2 (vw_C_eq h2 (by omega) (fun a b => by rw [vw_S_cons]; omega)))
      rw [vw_len1] at g
      exact g
theorem vw_yg_loop {post : SY → Prop} {L P0 Q0 : List vw_T} {x : vw_T} {g : Nat} {k : Int32} (hk : k = 6 ∨ k = 7 ∨ k = 8 ∨ k = 9) (hg : g < 33) (H : vw_H 12 a_rowA a_rowB a_rowN a_size g L) (eL : L = P0 ++ x :: Q0)
    (hp1 : (∃ y, y ∈ P0 ∧ y.1 = x.1) → post (f_tables, f_maxViews, f_maxRows, f_maxMult, f_views, f_commits, f_pendCount, f_calcSize, a_kinds, a_lefts, a_rights, a_thirds, a_fourths, a_size, a_rowA, a_rowB, a_rowN, a_pendT, a_pendA, a_pendB, a_pendN, a_calcA, a_calcB, a_calcN)) (hp2 : (∀ y, y ∈ P0 → y.1 ≠ x.1) → ∀ r, vw_G k L x.1 r → wY_addGroup_187 post x.1 r f_tables f_maxViews f_maxRows f_maxMult f_views f_commits f_pendCount f_calcSize a_kinds a_lefts a_rights a_thirds a_fourths a_size a_rowA a_rowB a_rowN a_pendT a_pendA a_pendB a_pendN a_calcA a_calcB a_calcN) :
    ∀ (Q P : List vw_T) (n : Nat) (x7 x8 : Int32), L = P ++ Q → Q.length < n → ((∃ z, z ∈ L ∧ z.1 = x.1 ∧ z.2.1 = x7) ∧ ∀ z, z ∈ P → z.1 = x.1 → x7 ≤ z.2.1) → ((∃ z, z ∈ L ∧ z.1 = x.1 ∧ z.2.1 = x8) ∧ ∀ z, z ∈ P → z.1 = x.1 → z.2.1 ≤ x8) → (∀ j z, P[j]? = some z → z.1 = x.1 → P0.length ≤ j) →
    wY_addGroup_39 post k (nI g) (nI P0.length) x.1 f_tables f_maxViews f_maxRows f_maxMult f_views f_commits f_pendCount f_calcSize a_kinds a_lefts a_rights a_thirds a_fourths a_size a_rowA a_rowB a_rowN a_pendT a_pendA a_pendB a_pendN a_calcA a_calcB a_calcN n (Int32.ofInt (vw_gs P x.1 (fun _ => 1))) (Int32.ofInt (vw_gs P x.1 (fun q => q.toInt))) x7 x8 (nI P.length) := by
  have hw := H.2.1
  have eg : (nI g).toNatClampNeg = g := nI_clamp (by omega)
  have ig : vp_in (nI g) 33 := vp_in_nI hg (by decide)
  have l0 : L.length = P0.length + (Q0.length + 1) := by rw [eL]; simp
  intro Q
  induction Q with
  | nil =>
    intro P n x7 x8 e hn h7 h8 hj
    obtain ⟨n, rfl⟩ : ∃ m, n = m + 1 := ⟨n - 1, by omega⟩
    rw [List.append_nil] at e
    subst e
    have no : ∀ y, y ∈ P0 → y.1 ≠ x.1 := by
      intro y hy z
      obtain ⟨j, hjy⟩ := List.mem_iff_getElem?.mp hy
      have hlt := vw_ix hjy
      have h1 := hj j y (by rw [eL, List.getElem?_append_left hlt]; exact hjy) z
      omega
    have hex : ∃ z, z ∈ L ∧ z.1 = x.1 := ⟨x, by rw [eL]; exact List.mem_append_right _ List.mem_cons_self, rfl⟩
    have fin := hp2 no
    refine And.intro ig (br_t ?_ ?_)
    · rw [eg, H.1]; exact nI_le (by omega) (by omega)
    rcases hk with rfl | rfl | rfl | rfl
    · exact br_t rfl (br_f (by decide) (br_f (by decide) (fin _ ⟨hex, fun _ => rfl, fun z => absurd z (by decide), fun z => absurd z (by decide), fun z => absurd z (by decide)⟩)))
    · exact br_f (by decide) (br_t rfl (br_f (by decide) (fin _ ⟨hex, fun z => absurd z (by decide), fun _ => rfl, fun z => absurd z (by decide), fun z => absurd z (by decide)⟩)))
    · exact br_f (by decide) (br_f (by decide) (br_t rfl (fin _ ⟨hex, fun z => absurd z (by decide), fun z => absurd z (by decide), fun _ => h7, fun z => absurd z (by decide)⟩)))
    · exact br_f (by decide) (br_f (by decide) (br_f (by decide) (fin _ ⟨hex, fun z => absurd z (by decide), fun z => absurd z (by decide), fun z => absurd z (by decide), fun _ => h8⟩)))
  | cons z Q ih =>
    intro P n x7 x8 e hn h7 h8 hj
    obtain ⟨n, rfl⟩ : ∃ m, n = m + 1 := ⟨n - 1, by omega⟩
    have hx : L[P.length]? = some z := by rw [e]; exact vw_mid _ _ _
    have hH := H.2.2 _ z hx
    have hlt := vw_ix hx
    have hzL := List.mem_of_getElem? hx
    rw [List.length_cons] at hn
    have hi : vp_in (nI (g * 12 + P.length)) 396 := vp_in_nI (by omega) (by decide)
    have eP : L = (P ++ [z]) ++ Q := by rw [e]; simp
    refine And.intro ig (br_f ?_ ?_)
    · rw [eg, H.1]; exact nI_ge hlt (by omega)
    rw [vw_e12, nI_clamp (by omega), hH.1, hH.2.1, vw_i32 hH.2.2]
    refine ⟨hi, nm_e ⟨hi, ?_⟩⟩
    by_cases c1 : z.1 = x.1
    · refine br_t c1 ?_
      by_cases c2 : P0.length ≤ P.length
      · have g5 : Int32.ofInt (vw_gs P x.1 (fun _ => 1)) + Int32.ofInt z.2.2 = Int32.ofInt (vw_gs (P ++ [z]) x.1 (fun _ => 1)) := by
          rw [vw_gs_1, if_pos c1, Int.one_mul, Int32.ofInt_add]
        have g6 : Int32.ofInt (vw_gs P x.1 (fun q => q.toInt)) + z.2.1 * Int32.ofInt z.2.2 = Int32.ofInt (vw_gs (P ++ [z]) x.1 (fun q => q.toInt)) := by
          rw [vw_gs_1, if_pos c1, Int32.ofInt_add, Int32.ofInt_mul, Int32.ofInt_toInt]
        have hj' : ∀ j y, (P ++ [z])[j]? = some y → y.1 = x.1 → P0.length ≤ j := by
          intro j y hy hyx
          rcases Nat.lt_or_ge j P.length with c3 | c3
          · rw [List.getElem?_append_left c3] at hy
            exact hj j y hy hyx
          · omega
        have go : ∀ y7 y8 : Int32, ((∃ w, w ∈ L ∧ w.1 = x.1 ∧ w.2.1 = y7) ∧ ∀ w, w ∈ P ++ [z] → w.1 = x.1 → y7 ≤ w.2.1) → ((∃ w, w ∈ L ∧ w.1 = x.1 ∧ w.2.1 = y8) ∧ ∀ w, w ∈ P ++ [z] → w.1 = x.1 → w.2.1 ≤ y8) → wY_addGroup_39 post k (nI g) (nI P0.length) x.1 f_tables f_maxViews f_maxRows f_maxMult f_views f_commits f_pendCount f_calcSize a_kinds a_lefts a_rights a_thirds a_fourths a_size a_rowA a_rowB a_rowN a_pendT a_pendA a_pendB a_pendN a_calcA a_calcB a_calcN n (Int32.ofInt (vw_gs (P ++ [z]) x.1 (fun _ => 1))) (Int32.ofInt (vw_gs (P ++ [z]) x.1 (fun q => q.toInt))) y7 y8 (nI (P.length + 1)) := by
          intro y7 y8 q7 q8
          have g := ih (P ++ [z]) n y7 y8 eP (by omega) q7 q8 hj'
          rw [vw_len1] at g
          exact g
        have new8 : ∀ w, w ∈ P ++ [z] → (w ∈ P ∨ w = z) := fun w hw => by
          rcases List.mem_append.mp hw with hw | hw
          · exact Or.inl hw
          · exact Or.inr (List.mem_singleton.mp hw)
        have s136 : ∀ y7 : Int32, ((∃ w, w ∈ L ∧ w.1 = x.1 ∧ w.2.1 = y7) ∧ ∀ w, w ∈ P ++ [z] → w.1 = x.1 → y7 ≤ w.2.1) → wY_addGroup_136 post (wY_addGroup_39 post k (nI g) (nI P0.length) x.1 f_tables f_maxViews f_maxRows f_maxMult f_views f_commits f_pendCount f_calcSize a_kinds a_lefts a_rights a_thirds a_fourths a_size a_rowA a_rowB a_rowN a_pendT a_pendA a_pendB a_pendN a_calcA a_calcB a_calcN n) k (nI g) (nI P0.length) x.1 (Int32.ofInt (vw_gs (P ++ [z]) x.1 (fun _ => 1))) (Int32.ofInt (vw_gs (P ++ [z]) x.1 (fun q => q.toInt))) y7 x8 (nI P.length) z.2.1 f_tables f_maxViews f_maxRows f_maxMult f_views f_commits f_pendCount f_calcSize a_kinds a_lefts a_rights a_thirds a_fourths a_size a_rowA a_rowB a_rowN a_pendT a_pendA a_pendB a_pendN a_calcA a_calcB a_calcN := by
          intro y7 q7
          refine br_c (fun c3 => nm_r (nI_1 _) (go y7 x8 q7 ⟨h8.1, fun w hw hwx => ?_⟩)) (fun c3 => nm_r (nI_1 _) (go y7 z.2.1 q7 ⟨⟨z, hzL, c1, rfl⟩, fun w hw hwx => ?_⟩))
          · rcases new8 w hw with hw | rfl
            · exact h8.2 w hw hwx
            · exact c3
          · rcases new8 w hw with hw | rfl
            · exact Int32.le_trans (h8.2 w hw hwx) (Int32.le_of_lt (Int32.not_le.mp c3))
            · exact Int32.le_refl _
        refine br_t (nI_le c2 (by omega)) ⟨hi, nm_r g5 ⟨hi, nm_r g6 (br_c (fun c3 => s136 x7 ⟨h7.1, fun w hw hwx => ?_⟩) (fun c3 => s136 z.2.1 ⟨⟨z, hzL, c1, rfl⟩, fun w hw hwx => ?_⟩))⟩⟩
        · rcases new8 w hw with hw | rfl
          · exact h7.2 w hw hwx
          · exact c3
        · rcases new8 w hw with hw | rfl
          · exact Int32.le_trans (Int32.le_of_lt (Int32.not_le.mp c3)) (h7.2 w hw hwx)
          · exact Int32.le_refl _
      · refine br_f (nI_ge (by omega) (by omega)) (hp1 ⟨z, ?_, c1⟩)
        rw [eL, List.getElem?_append_left (by omega)] at hx
        exact List.mem_of_getElem? hx
    · refine br_f c1 (nm_r (nI_1 _) ?_)
      have g := ih (P ++ [z]) n x7 x8 eP (by omega) ⟨h7.1, fun w hw hwx => ?_⟩ ⟨h8.1, fun w hw hwx => ?_⟩ (fun j y hy hyx => ?_)
      · rw [vw_len1, vw_gs_1, vw_gs_1, if_neg c1, if_neg c1, Int.zero_mul, Int.add_zero, Int.add_zero] at g
        exact g
      · rcases List.mem_append.mp hw with hw | hw
        · exact h7.2 w hw hwx
        · rw [List.mem_singleton.mp hw] at hwx; exact absurd hwx c1
      · rcases List.mem_append.mp hw with hw | hw
        · exact h8.2 w hw hwx
        · rw [List.mem_singleton.mp hw] at hwx; exact absurd hwx c1
      · rcases Nat.lt_or_ge j P.length with c3 | c3
        · rw [List.getElem?_append_left c3] at hy
          exact hj j y hy hyx
        · have hjl := vw_ix hy
          rw [vw_len1] at hjl
          have ej : j = P.length := by omega
          subst ej
          rw [vw_mid] at hy
          cases hy
          exact absurd hyx c1
theorem vw_yag {post : SY → Prop} {L P0 Q0 : List vw_T} {x : vw_T} {g c K : Nat} {k : Int32} {V : Int32 → Int32 → Int} (hk : k = 6 ∨ k = 7 ∨ k = 8 ∨ k = 9) (hg : g < 33) (H : vw_H 12 a_rowA a_rowB a_rowN a_size g L) (eL : L = P0 ++ x :: Q0) (h : vw_C a_calcA a_calcB a_calcN c K V) (hK : K < 144)
    (hp1 : (∃ y, y ∈ P0 ∧ y.1 = x.1) → post (f_tables, f_maxViews, f_maxRows, f_maxMult, f_views, f_commits, f_pendCount, nI c, a_kinds, a_lefts, a_rights, a_thirds, a_fourths, a_size, a_rowA, a_rowB, a_rowN, a_pendT, a_pendA, a_pendB, a_pendN, a_calcA, a_calcB, a_calcN)) (hp2 : (∀ y, y ∈ P0 → y.1 ≠ x.1) → ∀ r, vw_G k L x.1 r → ∀ c' A' B' N', vw_C A' B' N' c' (K + 1) (fun p q => V p q + vw_d p q x.1 r * 1) → post (f_tables, f_maxViews, f_maxRows, f_maxMult, f_views, f_commits, f_pendCount, nI c', a_kinds, a_lefts, a_rights, a_thirds, a_fourths, a_size, a_rowA, a_rowB, a_rowN, a_pendT, a_pendA, a_pendB, a_pendN, A', B', N')) :
    wpY_addGroup post (f_tables, f_maxViews, f_maxRows, f_maxMult, f_views, f_commits, f_pendCount, nI c, a_kinds, a_lefts, a_rights, a_thirds, a_fourths, a_size, a_rowA, a_rowB, a_rowN, a_pendT, a_pendA, a_pendB, a_pendN, a_calcA, a_calcB, a_calcN) k (nI g) (nI P0.length) := by
  have hw := H.2.1
  have hx : L[P0.length]? = some x := by rw [eL]; exact vw_mid _ _ _
  have hH := H.2.2 _ x hx
  have hlt := vw_ix hx
  have hi : vp_in (nI g * 12 + nI P0.length) 396 := by rw [vw_e12]; exact vp_in_nI (by omega) (by decide)
  have ei : (nI g * 12 + nI P0.length).toNatClampNeg = g * 12 + P0.length := by rw [vw_e12, nI_clamp (by omega)]
  have hxL := List.mem_of_getElem? hx
  refine And.intro hi (nm_r (e' := x.1) (by rw [ei]; exact hH.1) ⟨hi, nm_r (e' := x.2.1) (by rw [ei]; exact hH.2.1) ⟨L.length + 1, ?_⟩⟩)
  exact vw_yg_loop (x := x) hk hg H eL hp1 (fun no r hr => vw_yadd (m := 1) rfl h hK (fun c' A' B' N' h' => hp2 no r hr c' A' B' N' h')) L [] _ x.2.1 x.2.1 rfl (by omega) ⟨⟨x, hxL, rfl, rfl⟩, fun z hz => absurd hz List.not_mem_nil⟩ ⟨⟨x, hxL, rfl, rfl⟩, fun z hz => absurd hz List.not_mem_nil⟩ (fun j z hz => by simp at hz)
theorem vw_y6_loop {post : SY → Prop} {L : List vw_T} {l r : Nat} {k x5 : Int32} {V : Int32 → Int32 → Int} (hk : k = 6 ∨ k = 7 ∨ k = 8 ∨ k = 9) (hl : l < 33) (H : vw_H 12 a_rowA a_rowB a_rowN a_size l L) :
    ∀ (Q P : List vw_T) (n c K : Nat) (A B N : Nat → Int32), L = P ++ Q → Q.length < n → vw_C A B N c K (fun p q => V p q + vw_b ((∃ x, x ∈ P ∧ x.1 = p) ∧ vw_G k L p q)) → K + Q.length ≤ 144 →
    (∀ c' A' B' N', vw_C A' B' N' c' (K + Q.length) (fun p q => V p q + vw_b (vw_G k L p q)) → post (f_tables, f_maxViews, f_maxRows, f_maxMult, f_views, f_commits, f_pendCount, nI c', a_kinds, a_lefts, a_rights, a_thirds, a_fourths, a_size, a_rowA, a_rowB, a_rowN, a_pendT, a_pendA, a_pendB, a_pendN, A', B', N')) →
    wY_compute_139 post (nI r) k (nI l) x5 n (nI P.length) f_tables f_maxViews f_maxRows f_maxMult f_views f_commits f_pendCount (nI c) a_kinds a_lefts a_rights a_thirds a_fourths a_size a_rowA a_rowB a_rowN a_pendT a_pendA a_pendB a_pendN A B N := by
  have hw := H.2.1
  have eg : (nI l).toNatClampNeg = l := nI_clamp (by omega)
  have ig : vp_in (nI l) 33 := vp_in_nI hl (by decide)
  have n1 : ¬ k = 1 := by rcases hk with rfl | rfl | rfl | rfl <;> decide
  have n2 : ¬ k = 2 := by rcases hk with rfl | rfl | rfl | rfl <;> decide
  have n3 : ¬ k = 3 := by rcases hk with rfl | rfl | rfl | rfl <;> decide
  have n5 : ¬ k = 5 := by rcases hk with rfl | rfl | rfl | rfl <;> decide
  intro Q
  induction Q with
  | nil =>
    intro P n c K A B N e hn h hK hp
    obtain ⟨n, rfl⟩ : ∃ m, n = m + 1 := ⟨n - 1, by omega⟩
    rw [List.append_nil] at e
    subst e
    refine And.intro ig (br_t ?_ (hp c A B N (vw_C_eq h (by omega) (fun a b => ?_))))
    · rw [eg, H.1]; exact nI_le (by omega) (by omega)
    · rw [vw_b_iff (P := vw_G k L a b) (Q := (∃ x, x ∈ L ∧ x.1 = a) ∧ vw_G k L a b) ⟨fun z => ⟨z.1, z⟩, fun z => z.2⟩]
  | cons x Q ih =>
    intro P n c K A B N e hn h hK hp
    obtain ⟨n, rfl⟩ : ∃ m, n = m + 1 := ⟨n - 1, by omega⟩
    have hx : L[P.length]? = some x := by rw [e]; exact vw_mid _ _ _
    have hlt := vw_ix hx
    rw [List.length_cons] at hn hK hp
    have hi : vp_in (nI (l * 12 + P.length)) 396 := vp_in_nI (by omega) (by decide)
    refine And.intro ig (br_f ?_ ?_)
    · rw [eg, H.1]; exact nI_ge hlt (by omega)
    rw [vw_e12]
    refine ⟨hi, nm_e ⟨hi, nm_e ⟨hi, nm_e (br_f n1 (br_f n2 (br_f n3 (br_f n5 (vw_yag hk hl H e h (by omega) (fun s => nm_r (nI_1 _) ?_) (fun s r2 hr2 c' A' B' N' h' => nm_r (nI_1 _) ?_))))))⟩⟩⟩
    · have g := ih (P ++ [x]) n c K A B N (by rw [e]; simp) (by omega) (vw_C_eq h (by omega) (fun p q => ?_)) (by omega) (fun c2 A2 B2 N2 h2 => hp c2 A2 B2 N2 (vw_C_eq h2 (by omega) (fun a b => rfl)))
      · rw [vw_len1] at g
        exact g
      · rw [vw_b_iff (P := (∃ y, y ∈ P ++ [x] ∧ y.1 = p) ∧ vw_G k L p q) (Q := (∃ y, y ∈ P ∧ y.1 = p) ∧ vw_G k L p q)]
        refine ⟨fun z => ⟨?_, z.2⟩, fun z => ⟨?_, z.2⟩⟩
        · obtain ⟨w, hw, hz⟩ := z.1
          rcases List.mem_append.mp hw with hw | hw
          · exact ⟨w, hw, hz⟩
          · rw [List.mem_singleton.mp hw] at hz
            obtain ⟨y, hy, hyx⟩ := s
            exact ⟨y, hy, hyx.trans hz⟩
        · obtain ⟨w, hw, hz⟩ := z.1
          exact ⟨w, List.mem_append_left _ hw, hz⟩
    · have g := ih (P ++ [x]) n c' (K + 1) A' B' N' (by rw [e]; simp) (by omega) (vw_C_eq h' (by omega) (fun p q => ?_)) (by omega) (fun c2 A2 B2 N2 h2 => hp c2 A2 B2 N2 (vw_C_eq h2 (by omega) (fun a b => rfl)))
      · rw [vw_len1] at g
        exact g
      · by_cases c1 : p = x.1
        · rw [c1, vw_b_f (P := (∃ y, y ∈ P ∧ y.1 = x.1) ∧ vw_G k L x.1 q) (fun z => by obtain ⟨y, hy, hyx⟩ := z.1; exact s y hy hyx)]
          by_cases c3 : q = r2
          · rw [c3, vw_d_1, vw_b_t (P := (∃ y, y ∈ P ++ [x] ∧ y.1 = x.1) ∧ vw_G k L x.1 r2) ⟨⟨x, List.mem_append_right _ List.mem_cons_self, rfl⟩, hr2⟩]; omega
          · rw [vw_d_0 (fun z => c3 z.2.symm), vw_b_f (P := (∃ y, y ∈ P ++ [x] ∧ y.1 = x.1) ∧ vw_G k L x.1 q) (fun z => c3 (vw_G_u hk z.2 hr2))]; omega
        · rw [vw_d_0 (fun z => c1 z.1.symm), vw_b_iff (P := (∃ y, y ∈ P ++ [x] ∧ y.1 = p) ∧ vw_G k L p q) (Q := (∃ y, y ∈ P ∧ y.1 = p) ∧ vw_G k L p q)]
          · omega
          · refine ⟨fun z => ⟨?_, z.2⟩, fun z => ⟨?_, z.2⟩⟩
            · obtain ⟨w, hw, hz⟩ := z.1
              rcases List.mem_append.mp hw with hw | hw
              · exact ⟨w, hw, hz⟩
              · rw [List.mem_singleton.mp hw] at hz; exact absurd hz.symm c1
            · obtain ⟨w, hw, hz⟩ := z.1
              exact ⟨w, List.mem_append_left _ hw, hz⟩
end
theorem vw_f5_S {L R : List vw_T} {t f : Int32} (nd : vw_nd L) (pR : vw_ps R) (p q : Int32) : vw_S L (fun x => vw_d p q x.1 x.2.1 * vw_f5 L R x.1 x.2.1) = vw_F 5 t f L R p q := by
  have e : vw_S L (fun x => vw_d p q x.1 x.2.1 * vw_f5 L R x.1 x.2.1) = vw_S L (fun x => vw_b True * (vw_d p q x.1 x.2.1 * vw_f5 L R x.1 x.2.1)) := vw_S_congr (fun x _ => by rw [vw_b_t trivial, Int.one_mul])
  rw [e]
  rcases Classical.em (∃ x, x ∈ L ∧ x.1 = p ∧ x.2.1 = q) with c | c
  · rw [vw_df_2 (g := vw_f5 L R) (P := fun _ => True) nd c (fun _ _ _ _ => trivial)]
    rfl
  · rw [vw_df_1 (g := vw_f5 L R) (P := fun _ => True) nd p q (fun x hx h1 h2 => absurd ⟨x, hx, h1, h2⟩ c), vw_F5]
    have z1 : vw_v L p q = 0 := vw_v_none (fun x hx e => c ⟨x, hx, vw_k_eq.mp e⟩)
    have z2 := vw_v_nn pR p q
    rw [if_neg (by omega)]
section
variable {f_tables f_maxViews f_maxRows f_maxMult f_views f_commits f_pendCount f_calcSize : Int32} {a_kinds a_lefts a_rights a_thirds a_fourths a_size a_rowA a_rowB a_rowN a_pendT a_pendA a_pendB a_pendN a_calcA a_calcB a_calcN : Nat → Int32}
theorem vw_y116 {post : SY → Prop} {L R : List vw_T} {l g r Mx : Nat} {k t f : Int32} (hk : k = 1 ∨ k = 2 ∨ k = 3 ∨ k = 4 ∨ k = 5 ∨ k = 6 ∨ k = 7 ∨ k = 8 ∨ k = 9) (hr : r < 11) (hl : l < 33) (hM : Mx ≤ 9999) (H : vw_H 12 a_rowA a_rowB a_rowN a_size l L) (bL : vw_bg L Mx) (et : a_thirds r = t) (ef : a_fourths r = f)
    (hR : k = 3 ∨ k = 4 ∨ k = 5 → g < 33 ∧ vw_H 12 a_rowA a_rowB a_rowN a_size g R ∧ vw_bg R Mx)
    (hp : ∀ c' A' B' N', vw_C A' B' N' c' 144 (fun p q => vw_F k t f L R p q) → post (f_tables, f_maxViews, f_maxRows, f_maxMult, f_views, f_commits, f_pendCount, nI c', a_kinds, a_lefts, a_rights, a_thirds, a_fourths, a_size, a_rowA, a_rowB, a_rowN, a_pendT, a_pendA, a_pendB, a_pendN, A', B', N')) :
    wY_compute_116 post (nI r) k (nI l) (nI g) f_tables f_maxViews f_maxRows f_maxMult f_views f_commits f_pendCount 0 a_kinds a_lefts a_rights a_thirds a_fourths a_size a_rowA a_rowB a_rowN a_pendT a_pendA a_pendB a_pendN a_calcA a_calcB a_calcN := by
  have h0 := vw_C_0 a_calcA a_calcB a_calcN
  have w := bL.2.1
  rcases hk with rfl | rfl | rfl | rfl | rfl | hk
  · refine br_f (by decide) ⟨L.length + 1, vw_y1_loop hr hl H et ef L [] _ 0 0 _ _ _ _ rfl (by omega) h0 (by omega) (fun c' A' B' N' h' => hp c' A' B' N' (vw_C_eq h' (by omega) (fun p q => ?_)))⟩
    rw [vw_F1, Int.zero_add]
  · refine br_f (by decide) ⟨L.length + 1, vw_y2_loop hr hl H et ef L [] _ 0 0 _ _ _ _ rfl (by omega) h0 (by omega) (fun c' A' B' N' h' => hp c' A' B' N' (vw_C_eq h' (by omega) (fun p q => ?_)))⟩
    rw [vw_F2, Int.zero_add]
  · obtain ⟨hg, HR, bR⟩ := hR (Or.inl rfl)
    have k1 : L.length * R.length ≤ 12 * 12 := Nat.mul_le_mul w bR.2.1
    refine br_f (by decide) ⟨L.length + 1, vw_y3_loop hl hg H HR L [] _ 0 0 _ _ _ _ rfl (by omega) h0 (by omega) (fun c' A' B' N' h' => hp c' A' B' N' (vw_C_eq h' (by omega) (fun p q => ?_)))⟩
    rw [vw_F3, Int.zero_add]
  · obtain ⟨hg, HR, bR⟩ := hR (Or.inr (Or.inl rfl))
    have w2 := bR.2.1
    refine br_t rfl (vw_yab (sg := 1) rfl hl H h0 (by omega) (fun c' A' B' N' h' => vw_yab (sg := 1) rfl hg HR h' (by omega) (fun c2 A2 B2 N2 h2 => hp c2 A2 B2 N2 (vw_C_eq h2 (by omega) (fun p q => ?_)))))
    rw [vw_F4]; omega
  · obtain ⟨hg, HR, bR⟩ := hR (Or.inr (Or.inr rfl))
    refine br_f (by decide) ⟨L.length + 1, vw_y5_loop hM hl hg H HR bL bR L [] _ 0 0 _ _ _ _ rfl (by omega) h0 (by omega) (fun c' A' B' N' h' => hp c' A' B' N' (vw_C_eq h' (by omega) (fun p q => ?_)))⟩
    rw [vw_f5_S (t := t) (f := f) bL.1 (vw_bg_ps bR), Int.zero_add]
  · have n4 : ¬ k = 4 := by rcases hk with rfl | rfl | rfl | rfl <;> decide
    refine br_f n4 ⟨L.length + 1, vw_y6_loop (V := fun _ _ => 0) hk hl H L [] _ 0 0 _ _ _ rfl (by omega) (vw_C_eq h0 (by omega) (fun p q => ?_)) (by omega) (fun c' A' B' N' h' => hp c' A' B' N' (vw_C_eq h' (by omega) (fun p q => ?_)))⟩
    · rw [vw_b_f (fun z => by obtain ⟨x, hx, _⟩ := z.1; exact absurd hx List.not_mem_nil)]; rfl
    · rw [vw_F6 hk, Int.zero_add]
end
end
section
def vw_pk (S : List vw_T) (i fl r : Int32) : Prop :=
  (∀ j x, S[j]? = some x → i = nI j → (fl = 0 → r = x.1) ∧ (fl = 1 → r = x.2.1) ∧ (fl = 2 → r.toInt = x.2.2) ∧ (fl ≠ 0 → fl ≠ 1 → fl ≠ 2 → r = 0)) ∧ ((∀ j x, S[j]? = some x → i ≠ nI j) → r = 0)
theorem vw_pk_u {S : List vw_T} {i fl r r' : Int32} (h : vw_pk S i fl r) (h' : vw_pk S i fl r') : r' = r := by
  rcases Classical.em (∃ j x, S[j]? = some x ∧ i = nI j) with ⟨j, x, hx, hi⟩ | hn
  · obtain ⟨a1, a2, a3, a4⟩ := h.1 j x hx hi
    obtain ⟨b1, b2, b3, b4⟩ := h'.1 j x hx hi
    by_cases c0 : fl = 0
    · rw [a1 c0, b1 c0]
    by_cases c1 : fl = 1
    · rw [a2 c1, b2 c1]
    by_cases c2 : fl = 2
    · exact Int32.toInt_inj.mp ((b3 c2).trans (a3 c2).symm)
    rw [a4 c0 c1 c2, b4 c0 c1 c2]
  · rw [h.2 (fun j x hx z => hn ⟨j, x, hx, z⟩), h'.2 (fun j x hx z => hn ⟨j, x, hx, z⟩)]
theorem vw_pk_none {S : List vw_T} {i fl : Int32} (h : ∀ j x, S[j]? = some x → i ≠ nI j) : vw_pk S i fl 0 := ⟨fun j x hx z => absurd z (h j x hx), fun _ => rfl⟩
theorem vw_pk_at {S : List vw_T} {j0 : Nat} {x0 : vw_T} {i fl r : Int32} (hS : S.length < 2 ^ 31) (hx : S[j0]? = some x0) (hi : i = nI j0) (h : (fl = 0 → r = x0.1) ∧ (fl = 1 → r = x0.2.1) ∧ (fl = 2 → r.toInt = x0.2.2) ∧ (fl ≠ 0 → fl ≠ 1 → fl ≠ 2 → r = 0)) : vw_pk S i fl r := by
  refine ⟨fun j x hj z => ?_, fun z => absurd hi (z j0 x0 hx)⟩
  have h1 := vw_ix hx
  have h2 := vw_ix hj
  have e : j = j0 := (nI_eq (by omega) (by omega)).mp (z.symm.trans hi)
  subst e
  rw [hx] at hj
  cases hj
  exact h
section
variable {f_width f_relSlots f_emptyList f_accRoom f_leastInt f_tableCount f_maxViews f_maxRows f_maxMult f_side f_viewCount f_pendCount f_accCount f_commits : Int32} {a_rowA a_rowB a_rowM a_size a_relKind a_relLeft a_relRight a_relFirst a_relSecond a_pendTable a_pendA a_pendB a_pendN a_accA a_accB : Nat → Int32} {a_accM : Nat → Int64}
theorem vw_xf {post : Int32 → Prop} {S : List vw_T} {l : Nat} {i fl : Int32} (hl : l < 45) (H : vw_H 24 a_rowA a_rowB a_rowM a_size l S) (hp : ∀ r, vw_pk S i fl r → post r) : wpX_fieldIn post (f_width, f_relSlots, f_emptyList, f_accRoom, f_leastInt, f_tableCount, f_maxViews, f_maxRows, f_maxMult, f_side, f_viewCount, f_pendCount, f_accCount, f_commits, a_rowA, a_rowB, a_rowM, a_size, a_relKind, a_relLeft, a_relRight, a_relFirst, a_relSecond, a_pendTable, a_pendA, a_pendB, a_pendN, a_accA, a_accB, a_accM) (nI l) i fl := by
  have hw := H.2.1
  by_cases c0 : i < 0
  · exact br_t c0 (hp 0 (vw_pk_none (fun j x hx z => by
      have h1 := vw_ix hx
      rw [z] at c0
      exact nI_pos (by omega) c0)))
  · obtain ⟨j, hj, rfl⟩ := nI_of c0
    refine br_f c0 ⟨vp_in_nI hl (by decide), ?_⟩
    rw [nI_clamp (n := l) (by omega), H.1]
    by_cases c1 : j < S.length
    · obtain ⟨x, hx⟩ := vw_ex c1
      have hH := H.2.2 _ x hx
      have hi : vp_in (nI (l * 24 + j)) 1080 := vp_in_nI (by omega) (by decide)
      refine br_t (nI_lt c1 (by omega)) (nm_r (e' := nI (l * 24 + j)) ((congrArg (fun z => z + nI j) (pk_mul l 24)).trans (nI_add _ _)) ?_)
      rw [nI_clamp (n := l * 24 + j) (by omega), hH.1, hH.2.1]
      have hS : S.length < 2 ^ 31 := by omega
      refine br_c (fun e0 => ⟨hi, hp _ (vw_pk_at hS hx rfl ⟨fun _ => rfl, fun z => ?_, fun z => ?_, fun z => absurd e0 z⟩)⟩) (fun n0 => br_c (fun e1 => ⟨hi, hp _ (vw_pk_at hS hx rfl ⟨fun z => absurd z n0, fun _ => rfl, fun z => ?_, fun _ z => absurd e1 z⟩)⟩) (fun n1 => br_c (fun e2 => ⟨hi, hp _ (vw_pk_at hS hx rfl ⟨fun z => absurd z n0, fun z => absurd z n1, fun _ => hH.2.2, fun _ _ z => absurd e2 z⟩)⟩) (fun n2 => hp _ (vw_pk_at hS hx rfl ⟨fun z => absurd z n0, fun z => absurd z n1, fun z => absurd z n2, fun _ _ _ => rfl⟩))))
      · rw [e0] at z; exact absurd z (by decide)
      · rw [e0] at z; exact absurd z (by decide)
      · rw [e1] at z; exact absurd z (by decide)
    · refine br_f (nI_nlt (by omega) (by omega)) (hp 0 (vw_pk_none (fun j2 x hx z => ?_)))
      have h1 := vw_ix hx
      have e := (nI_eq (by omega) (by omega)).mp z
      omega
end
theorem vw_nd_nodup {l : List vw_T} (h : vw_nd l) : l.Nodup := List.Pairwise.imp (fun z e => z (congrArg vw_q e)) h
theorem vw_tr_mem {S C : List vw_T} (ndS : vw_nd S) (ndC : vw_nd C) (hv : ∀ a b, vw_v C a b = vw_v S a b) {x : vw_T} (hx : x ∈ S) (hz : x.2.2 ≠ 0) : x ∈ C := by
  have h1 := vw_v_in ndS hx
  rw [← hv] at h1
  obtain ⟨y, hy, e1, e2⟩ := vw_v_ne (l := C) (a := x.1) (b := x.2.1) (by rw [h1]; exact hz)
  have h2 := vw_v_in ndC hy
  rw [e1, e2, h1] at h2
  have e : y = x := by
    obtain ⟨xa, xb, xm⟩ := x
    obtain ⟨ya, yb, ym⟩ := y
    simp only at e1 e2 h2
    rw [e1, e2, h2]
  rw [← e]; exact hy
def vw_rk (C : List vw_T) (k : Int) : Nat := ((vw_nz C).filter (fun z => decide (vw_q z < k))).length
theorem vw_rk_le (C : List vw_T) (k : Int) : vw_rk C k ≤ C.length := Nat.le_trans (List.length_filter_le _ _) (List.length_filter_le _ _)
theorem vw_rk_0 {C1 : List vw_T} {z : vw_T} {k : Int} (h : z.2.2 = 0 ∨ ¬ vw_q z < k) : vw_rk (C1 ++ [z]) k = vw_rk C1 k := by
  unfold vw_rk vw_nz
  rw [List.filter_append, List.filter_append]
  by_cases c : z.2.2 = 0
  · rw [List.filter_cons_of_neg (a := z) (by simp [c]), List.filter_nil, List.filter_nil, List.append_nil]
  · rcases h with h | h
    · exact absurd h c
    · rw [List.filter_cons_of_pos (a := z) (by simp [c]), List.filter_nil, List.filter_cons_of_neg (a := z) (by simp; omega), List.filter_nil, List.append_nil]
theorem vw_rk_1 {C1 : List vw_T} {z : vw_T} {k : Int} (c : z.2.2 ≠ 0) (h : vw_q z < k) : vw_rk (C1 ++ [z]) k = vw_rk C1 k + 1 := by
  unfold vw_rk vw_nz
  rw [List.filter_append, List.filter_append, List.filter_cons_of_pos (a := z) (by simp [c]), List.filter_nil, List.filter_cons_of_pos (a := z) (by simp [h]), List.filter_nil, vw_len1]
theorem vw_split {S : List vw_T} {j : Nat} {x : vw_T} (h : S[j]? = some x) : ∃ S1 S2, S = S1 ++ x :: S2 ∧ S1.length = j := by
  obtain ⟨hj, rfl⟩ := List.getElem?_eq_some_iff.mp h
  refine ⟨S.take j, S.drop (j + 1), ?_, by rw [List.length_take]; omega⟩
  rw [← List.drop_eq_getElem_cons hj, List.take_append_drop]
theorem vw_rk_S {S C : List vw_T} (so : vw_so S) (nz : ∀ x, x ∈ S → x.2.2 ≠ 0) (ndC : vw_nd C) (hv : ∀ a b, vw_v C a b = vw_v S a b) {j : Nat} {x : vw_T} (hx : S[j]? = some x) : vw_rk C (vw_q x) = j := by
  have ndS := vw_so_nd so
  have ndz : vw_nd (vw_nz C) := List.Pairwise.filter _ ndC
  have pm : S.Perm (vw_nz C) := by
    rw [List.perm_ext_iff_of_nodup (vw_nd_nodup ndS) (vw_nd_nodup ndz)]
    intro y
    refine ⟨fun hy => ?_, fun hy => ?_⟩
    · exact List.mem_filter.mpr ⟨vw_tr_mem ndS ndC hv hy (nz y hy), by simpa using nz y hy⟩
    · exact vw_tr_mem ndC ndS (fun a b => (hv a b).symm) (List.mem_filter.mp hy).1 (vw_nz_ne hy)
  have e1 : vw_rk C (vw_q x) = (S.filter (fun z => decide (vw_q z < vw_q x))).length := ((pm.filter _).length_eq).symm
  rw [e1]
  obtain ⟨S1, S2, rfl, hl⟩ := vw_split hx
  have h1 := (List.pairwise_append.mp so).2.2
  have h2 := List.pairwise_cons.mp (List.pairwise_append.mp so).2.1
  rw [List.filter_append, List.filter_eq_self.mpr (fun y hy => by simpa using h1 y hy x List.mem_cons_self), List.filter_eq_nil_iff.mpr, List.append_nil, hl]
  intro y hy
  rcases List.mem_cons.mp hy with rfl | hy
  · simp
  · have := h2.1 y hy
    simp; omega
section
variable {f_tables f_maxViews f_maxRows f_maxMult f_views f_commits f_pendCount f_calcSize : Int32} {a_kinds a_lefts a_rights a_thirds a_fourths a_size a_rowA a_rowB a_rowN a_pendT a_pendA a_pendB a_pendN a_calcA a_calcB a_calcN : Nat → Int32}
theorem vw_ypi_loop {post : Int32 → Prop} {J2 : Int32 → Prop} {C : List vw_T} {c i : Nat} {x1 fl : Int32} {x : vw_T} (hC : C.length = c) (hc : c ≤ 144) (HC : ∀ i x, C[i]? = some x → a_calcA i = x.1 ∧ a_calcB i = x.2.1 ∧ (a_calcN i).toInt = x.2.2) (hx : C[i]? = some x)
    (hJ : (x.2.2 ≠ 0 → x1 = nI (vw_rk C (vw_q x)) → fl ≠ 0 ∧ fl ≠ 1 ∧ fl ≠ 2) → J2 (nI (i + 1))) (hok : x.2.2 ≠ 0 → x1 = nI (vw_rk C (vw_q x)) → (fl = 0 → post x.1) ∧ (fl = 1 → post x.2.1) ∧ (fl = 2 → ∀ r : Int32, r.toInt = x.2.2 → post r)) :
    ∀ (C2 C1 : List vw_T) (n : Nat), C = C1 ++ C2 → C2.length < n → wY_pick_16 post J2 x1 fl (nI i) f_tables f_maxViews f_maxRows f_maxMult f_views f_commits f_pendCount (nI c) a_kinds a_lefts a_rights a_thirds a_fourths a_size a_rowA a_rowB a_rowN a_pendT a_pendA a_pendB a_pendN a_calcA a_calcB a_calcN n (nI (vw_rk C1 (vw_q x))) (nI C1.length) := by
  have hil := vw_ix hx
  have hHx := HC _ x hx
  have ii : vp_in (nI i) 144 := vp_in_nI (by omega) (by decide)
  have ei : (nI i).toNatClampNeg = i := nI_clamp (by omega)
  intro C2
  induction C2 with
  | nil =>
    intro C1 n e hn
    obtain ⟨n, rfl⟩ : ∃ m, n = m + 1 := ⟨n - 1, by omega⟩
    rw [List.append_nil] at e
    subst e
    refine br_t (nI_le (by omega) (by omega)) ?_
    rw [ei, hHx.1, hHx.2.1]
    refine ⟨ii, ?_⟩
    by_cases c1 : x.2.2 = 0
    · refine br_t ?_ (nm_r (nI_1 _) (hJ (fun z => absurd c1 z)))
      rw [vw_i32 hHx.2.2, c1]; rfl
    · refine br_f (fun z => c1 (by rw [z] at hHx; exact hHx.2.2.symm)) ?_
      by_cases c2 : x1 = nI (vw_rk C (vw_q x))
      · have ok := hok c1 c2
        refine br_t c2.symm (br_c (fun e0 => ⟨ii, ok.1 e0⟩) (fun n0 => br_c (fun e1 => ⟨ii, ok.2.1 e1⟩) (fun n1 => br_c (fun e2 => ⟨ii, ok.2.2 e2 _ hHx.2.2⟩) (fun n2 => nm_r (nI_1 _) (hJ (fun _ _ => ⟨n0, n1, n2⟩))))))
      · exact br_f (fun z => c2 z.symm) (nm_r (nI_1 _) (hJ (fun _ z => absurd z c2)))
  | cons z C2 ih =>
    intro C1 n e hn
    obtain ⟨n, rfl⟩ : ∃ m, n = m + 1 := ⟨n - 1, by omega⟩
    have hz : C[C1.length]? = some z := by rw [e]; exact vw_mid _ _ _
    have hH := HC _ z hz
    have hlt := vw_ix hz
    rw [List.length_cons] at hn
    have hi : vp_in (nI C1.length) 144 := vp_in_nI (by omega) (by decide)
    have ec : (nI C1.length).toNatClampNeg = C1.length := nI_clamp (by omega)
    have g := ih (C1 ++ [z]) n (by rw [e]; simp) (by omega)
    rw [vw_len1] at g
    have s0 : ¬ vw_q z < vw_q x → wY_pick_78 post J2 (wY_pick_16 post J2 x1 fl (nI i) f_tables f_maxViews f_maxRows f_maxMult f_views f_commits f_pendCount (nI c) a_kinds a_lefts a_rights a_thirds a_fourths a_size a_rowA a_rowB a_rowN a_pendT a_pendA a_pendB a_pendN a_calcA a_calcB a_calcN n) x1 fl (nI i) (nI (vw_rk C1 (vw_q x))) (nI C1.length) 0 f_tables f_maxViews f_maxRows f_maxMult f_views f_commits f_pendCount (nI c) a_kinds a_lefts a_rights a_thirds a_fourths a_size a_rowA a_rowB a_rowN a_pendT a_pendA a_pendB a_pendN a_calcA a_calcB a_calcN := by
      intro hn
      rw [vw_rk_0 (Or.inr hn)] at g
      exact And.intro hi (br_c (fun _ => nm_r (nI_1 _) g) (fun _ => br_t rfl (nm_r (nI_1 _) g)))
    have s1 : vw_q z < vw_q x → wY_pick_78 post J2 (wY_pick_16 post J2 x1 fl (nI i) f_tables f_maxViews f_maxRows f_maxMult f_views f_commits f_pendCount (nI c) a_kinds a_lefts a_rights a_thirds a_fourths a_size a_rowA a_rowB a_rowN a_pendT a_pendA a_pendB a_pendN a_calcA a_calcB a_calcN n) x1 fl (nI i) (nI (vw_rk C1 (vw_q x))) (nI C1.length) 1 f_tables f_maxViews f_maxRows f_maxMult f_views f_commits f_pendCount (nI c) a_kinds a_lefts a_rights a_thirds a_fourths a_size a_rowA a_rowB a_rowN a_pendT a_pendA a_pendB a_pendN a_calcA a_calcB a_calcN := by
      intro hl
      by_cases c1 : z.2.2 = 0
      · rw [vw_rk_0 (Or.inl c1)] at g
        refine And.intro hi (br_t ?_ (nm_r (nI_1 _) g))
        rw [ec, vw_i32 hH.2.2, c1]; rfl
      · rw [vw_rk_1 c1 hl] at g
        refine And.intro hi (br_f ?_ (br_f (by decide) (nm_r (nI_1 _) (nm_r (nI_1 _) g))))
        intro z2
        rw [ec] at z2
        rw [z2] at hH
        exact c1 hH.2.2.symm
    refine br_f (nI_ge (by omega) (by omega)) ?_
    rw [ei, ec, hHx.1, hHx.2.1, hH.1, hH.2.1]
    refine ⟨hi, ii, br_c (fun l1 => s1 (vw_k_lt.mpr (Or.inl l1))) (fun l1 => ⟨hi, ii, br_c (fun e1 => ⟨hi, ii, br_c (fun l2 => s0 (fun q => ?_)) (fun l2 => s1 (vw_k_lt.mpr (Or.inr ⟨e1, Int32.not_le.mp l2⟩)))⟩) (fun e1 => s0 (fun q => ?_))⟩)⟩
    · rcases vw_k_lt.mp q with q | q
      · exact l1 q
      · exact Int32.not_lt.mpr l2 q.2
    · rcases vw_k_lt.mp q with q | q
      · exact l1 q
      · exact e1 q.1
theorem vw_ypo_loop {post : Int32 → Prop} {C S : List vw_T} {c : Nat} {x1 fl : Int32} (hC : C.length = c) (hc : c ≤ 144) (HC : ∀ i x, C[i]? = some x → a_calcA i = x.1 ∧ a_calcB i = x.2.1 ∧ (a_calcN i).toInt = x.2.2) (hS : S.length < 2 ^ 31) (so : vw_so S) (nz : ∀ x, x ∈ S → x.2.2 ≠ 0) (ndC : vw_nd C) (hv : ∀ a b, vw_v C a b = vw_v S a b) (hp : ∀ r, vw_pk S x1 fl r → post r) :
    ∀ (C2 C1 : List vw_T) (n : Nat), C = C1 ++ C2 → C2.length < n → (∀ x, x ∈ C1 → x.2.2 ≠ 0 → x1 = nI (vw_rk C (vw_q x)) → fl ≠ 0 ∧ fl ≠ 1 ∧ fl ≠ 2) → wY_pick_2 post x1 fl f_tables f_maxViews f_maxRows f_maxMult f_views f_commits f_pendCount (nI c) a_kinds a_lefts a_rights a_thirds a_fourths a_size a_rowA a_rowB a_rowN a_pendT a_pendA a_pendB a_pendN a_calcA a_calcB a_calcN n (nI C1.length) := by
  intro C2
  induction C2 with
  | nil =>
    intro C1 n e hn hj
    obtain ⟨n, rfl⟩ : ∃ m, n = m + 1 := ⟨n - 1, by omega⟩
    rw [List.append_nil] at e
    subst e
    refine br_t (nI_le (by omega) (by omega)) (hp 0 ⟨fun j x hx z => ?_, fun _ => rfl⟩)
    have hxS := List.mem_of_getElem? hx
    have hr := vw_rk_S so nz ndC hv hx
    have f := hj x (vw_tr_mem (vw_so_nd so) ndC hv hxS (nz x hxS)) (nz x hxS) (by rw [hr]; exact z)
    exact ⟨fun q => absurd q f.1, fun q => absurd q f.2.1, fun q => absurd q f.2.2, fun _ _ _ => rfl⟩
  | cons x C2 ih =>
    intro C1 n e hn hj
    obtain ⟨n, rfl⟩ : ∃ m, n = m + 1 := ⟨n - 1, by omega⟩
    have hx : C[C1.length]? = some x := by rw [e]; exact vw_mid _ _ _
    have hlt := vw_ix hx
    have hxC := List.mem_of_getElem? hx
    rw [List.length_cons] at hn
    refine br_f (nI_ge (by omega) (by omega)) ⟨C.length + 1, ?_⟩
    refine vw_ypi_loop hC hc HC hx (fun z => ?_) (fun z1 z2 => ?_) C [] _ rfl (by omega)
    · have g := ih (C1 ++ [x]) n (by rw [e]; simp) (by omega) (fun y hy => by
        rcases List.mem_append.mp hy with hy | hy
        · exact hj y hy
        · rw [List.mem_singleton.mp hy]; exact z)
      rw [vw_len1] at g
      exact g
    · have hxS := vw_tr_mem ndC (vw_so_nd so) (fun a b => (hv a b).symm) hxC z1
      obtain ⟨j, hjx⟩ := List.mem_iff_getElem?.mp hxS
      have hr := vw_rk_S so nz ndC hv hjx
      rw [hr] at z2
      refine ⟨fun e0 => hp _ (vw_pk_at hS hjx z2 ⟨fun _ => rfl, fun z => ?_, fun z => ?_, fun z => absurd e0 z⟩), fun e1 => hp _ (vw_pk_at hS hjx z2 ⟨fun z => ?_, fun _ => rfl, fun z => ?_, fun _ z => absurd e1 z⟩), fun e2 r hr => hp _ (vw_pk_at hS hjx z2 ⟨fun z => ?_, fun z => ?_, fun _ => hr, fun _ _ z => absurd e2 z⟩)⟩
      · rw [e0] at z; exact absurd z (by decide)
      · rw [e0] at z; exact absurd z (by decide)
      · rw [e1] at z; exact absurd z (by decide)
      · rw [e1] at z; exact absurd z (by decide)
      · rw [e2] at z; exact absurd z (by decide)
      · rw [e2] at z; exact absurd z (by decide)
theorem vw_ypk {post : Int32 → Prop} {C S : List vw_T} {c : Nat} {x1 fl : Int32} (hC : C.length = c) (hc : c ≤ 144) (HC : ∀ i x, C[i]? = some x → a_calcA i = x.1 ∧ a_calcB i = x.2.1 ∧ (a_calcN i).toInt = x.2.2) (hS : S.length < 2 ^ 31) (so : vw_so S) (nz : ∀ x, x ∈ S → x.2.2 ≠ 0) (ndC : vw_nd C) (hv : ∀ a b, vw_v C a b = vw_v S a b) (hp : ∀ r, vw_pk S x1 fl r → post r) : wpY_pick post (f_tables, f_maxViews, f_maxRows, f_maxMult, f_views, f_commits, f_pendCount, nI c, a_kinds, a_lefts, a_rights, a_thirds, a_fourths, a_size, a_rowA, a_rowB, a_rowN, a_pendT, a_pendA, a_pendB, a_pendN, a_calcA, a_calcB, a_calcN) x1 fl :=
  ⟨C.length + 1, vw_ypo_loop hC hc HC hS so nz ndC hv hp C [] _ rfl (by omega) (fun x hx => absurd hx List.not_mem_nil)⟩
end
end
section
def vw_mt (T A B : Nat → Int32) (t a b : Int32) (e : Nat) : Prop := T e = t ∧ A e = a ∧ B e = b
def vw_pd (T A B N : Nat → Int32) (p tc Mx : Nat) : Prop :=
  p ≤ 12 ∧ (∀ e, e < p → ∃ t, t < tc ∧ T e = nI t) ∧ (∀ e, e < p → -(Mx : Int) ≤ (N e).toInt ∧ (N e).toInt ≤ (Mx : Int)) ∧ (∀ e e', e < p → e' < p → vw_mt T A B (T e') (A e') (B e') e → e = e')
def vw_pS (T A B N : Nat → Int32) (r a b : Int32) : Nat → Int
  | 0 => 0
  | e + 1 => vw_pS T A B N r a b e + (if T e = r then vw_d a b (A e) (B e) * (N e).toInt else 0)
theorem vw_pS_0 {T A B N : Nat → Int32} {r a b : Int32} {n : Nat} (h : ∀ e, e < n → ¬ vw_mt T A B r a b e) : vw_pS T A B N r a b n = 0 := by
  induction n with
  | zero => rfl
  | succ n ih =>
    show vw_pS T A B N r a b n + _ = 0
    rw [ih (fun e he => h e (by omega))]
    have h1 := h n (by omega)
    by_cases c : T n = r
    · rw [if_pos c, vw_d_0 (fun z => h1 ⟨c, z.1, z.2⟩), Int.zero_mul]; rfl
    · rw [if_neg c]; rfl
theorem vw_pS_1 {T A B N : Nat → Int32} {r a b : Int32} {n e : Nat} (he : e < n) (hm : vw_mt T A B r a b e) (h : ∀ e', e' < n → vw_mt T A B r a b e' → e' = e) : vw_pS T A B N r a b n = (N e).toInt := by
  induction n with
  | zero => omega
  | succ n ih =>
    show vw_pS T A B N r a b n + _ = _
    by_cases c : e = n
    · subst c
      rw [vw_pS_0 (fun e' h1 h2 => by have := h e' (by omega) h2; omega), if_pos hm.1, hm.2.1, hm.2.2, vw_d_1, Int.one_mul, Int.zero_add]
    · rw [ih (by omega) (fun e' h1 h2 => h e' (by omega) h2)]
      have h1 : ¬ vw_mt T A B r a b n := fun z => c (h n (by omega) z).symm
      by_cases c2 : T n = r
      · rw [if_pos c2, vw_d_0 (fun z => h1 ⟨c2, z.1, z.2⟩), Int.zero_mul, Int.add_zero]
      · rw [if_neg c2, Int.add_zero]
theorem vw_pS_bd {T A B N : Nat → Int32} {p tc Mx : Nat} (h : vw_pd T A B N p tc Mx) (hM : Mx ≤ 9999) {r : Int32} {v : Int32 → Int32 → Int} (hv : ∀ a b, 0 ≤ v a b ∧ v a b ≤ (Mx : Int)) (hb : ∀ e, e < p → T e = r → 0 ≤ v (A e) (B e) + (N e).toInt) (a b : Int32) : 0 ≤ v a b + vw_pS T A B N r a b p ∧ v a b + vw_pS T A B N r a b p < 2147483648 := by
  have h1 := hv a b
  rcases Classical.em (∃ e, e < p ∧ vw_mt T A B r a b e) with ⟨e, he, hm⟩ | hn
  · rw [vw_pS_1 he hm (fun e' h2 h3 => h.2.2.2 e' e h2 he (by obtain ⟨m1, m2, m3⟩ := hm; rw [m1, m2, m3]; exact h3))]
    have h2 := hb e he hm.1
    have h3 := h.2.2.1 e he
    rw [hm.2.1, hm.2.2] at h2
    omega
  · rw [vw_pS_0 (fun e he hm => hn ⟨e, he, hm⟩)]
    omega
section
variable {f_width f_relSlots f_emptyList f_accRoom f_leastInt f_tableCount f_maxViews f_maxRows f_maxMult f_side f_viewCount f_pendCount f_accCount f_commits : Int32} {a_rowA a_rowB a_rowM a_size a_relKind a_relLeft a_relRight a_relFirst a_relSecond a_pendTable a_pendA a_pendB a_pendN a_accA a_accB : Nat → Int32} {a_accM : Nat → Int64}
theorem vw_xfp_loop {post : Int32 → Prop} {pc : Nat} {t a b : Int32} (h12 : pc ≤ 12) (hn : (∀ e, e < pc → ¬ vw_mt a_pendTable a_pendA a_pendB t a b e) → post (-1)) (hs : ∀ e, e < pc → vw_mt a_pendTable a_pendA a_pendB t a b e → post (nI e)) :
    ∀ d e n, e + d = pc → d < n → (∀ e', e' < e → ¬ vw_mt a_pendTable a_pendA a_pendB t a b e') → wX_findPending_3 post t a b f_width f_relSlots f_emptyList f_accRoom f_leastInt f_tableCount f_maxViews f_maxRows f_maxMult f_side f_viewCount (nI pc) f_accCount f_commits a_rowA a_rowB a_rowM a_size a_relKind a_relLeft a_relRight a_relFirst a_relSecond a_pendTable a_pendA a_pendB a_pendN a_accA a_accB a_accM n (nI e) := by
  intro d
  induction d with
  | zero =>
    intro e n hd hn2 he
    obtain ⟨n, rfl⟩ : ∃ m, n = m + 1 := ⟨n - 1, by omega⟩
    have ee : e = pc := by omega
    subst ee
    exact br_t (nI_le (by omega) (by omega)) (hn he)
  | succ d ih =>
    intro e n hd hn2 he
    obtain ⟨n, rfl⟩ : ∃ m, n = m + 1 := ⟨n - 1, by omega⟩
    have hi : vp_in (nI e) 12 := vp_in_nI (by omega) (by decide)
    have next : ¬ vw_mt a_pendTable a_pendA a_pendB t a b e → wX_findPending_3 post t a b f_width f_relSlots f_emptyList f_accRoom f_leastInt f_tableCount f_maxViews f_maxRows f_maxMult f_side f_viewCount (nI pc) f_accCount f_commits a_rowA a_rowB a_rowM a_size a_relKind a_relLeft a_relRight a_relFirst a_relSecond a_pendTable a_pendA a_pendB a_pendN a_accA a_accB a_accM n (nI (e + 1)) := fun ne => ih (e + 1) n (by omega) (by omega) (fun j h1 => by
      rcases Nat.lt_or_ge j e with c1 | c1
      · exact he j c1
      · have e2 : j = e := by omega
        subst e2
        exact ne)
    refine br_f (nI_ge (by omega) (by omega)) ?_
    rw [nI_clamp (n := e) (by omega)]
    exact ⟨hi, br_c (fun c1 => ⟨hi, br_c (fun c2 => ⟨hi, br_c (fun c3 => hs e (by omega) ⟨c1, c2, c3⟩) (fun c3 => nm_r (nI_1 _) (next (fun z => c3 z.2.2)))⟩) (fun c2 => nm_r (nI_1 _) (next (fun z => c2 z.2.1)))⟩) (fun c1 => nm_r (nI_1 _) (next (fun z => c1 z.1)))⟩
theorem vw_xfp {post : Int32 → Prop} {pc : Nat} {t a b : Int32} (h12 : pc ≤ 12) (hn : (∀ e, e < pc → ¬ vw_mt a_pendTable a_pendA a_pendB t a b e) → post (-1)) (hs : ∀ e, e < pc → vw_mt a_pendTable a_pendA a_pendB t a b e → post (nI e)) : wpX_findPending post (f_width, f_relSlots, f_emptyList, f_accRoom, f_leastInt, f_tableCount, f_maxViews, f_maxRows, f_maxMult, f_side, f_viewCount, nI pc, f_accCount, f_commits, a_rowA, a_rowB, a_rowM, a_size, a_relKind, a_relLeft, a_relRight, a_relFirst, a_relSecond, a_pendTable, a_pendA, a_pendB, a_pendN, a_accA, a_accB, a_accM) t a b :=
  ⟨pc + 1, vw_xfp_loop h12 hn hs pc 0 _ (by omega) (by omega) (fun j h => absurd h (by omega))⟩
theorem vw_xgt_loop {post : SX → Prop} {pc r : Nat} {E : Int32 → Int32 → Int} (h12 : pc ≤ 12) (hr : r < 11) :
    ∀ (d e n c K : Nat) (A B : Nat → Int32) (M : Nat → Int64), e + d = pc → d < n → vw_A A B M c K (fun p q => E p q + vw_pS a_pendTable a_pendA a_pendB a_pendN (nI r) p q e) → K + d ≤ 576 →
    (∀ c' A' B' M', vw_A A' B' M' c' (K + d) (fun p q => E p q + vw_pS a_pendTable a_pendA a_pendB a_pendN (nI r) p q pc) → post (f_width, f_relSlots, f_emptyList, f_accRoom, f_leastInt, f_tableCount, f_maxViews, f_maxRows, f_maxMult, f_side, f_viewCount, nI pc, nI c', f_commits, a_rowA, a_rowB, a_rowM, a_size, a_relKind, a_relLeft, a_relRight, a_relFirst, a_relSecond, a_pendTable, a_pendA, a_pendB, a_pendN, A', B', M')) →
    wX_gatherTable_2 post (nI r) n (nI e) f_width f_relSlots f_emptyList f_accRoom f_leastInt f_tableCount f_maxViews f_maxRows f_maxMult f_side f_viewCount (nI pc) (nI c) f_commits a_rowA a_rowB a_rowM a_size a_relKind a_relLeft a_relRight a_relFirst a_relSecond a_pendTable a_pendA a_pendB a_pendN A B M := by
  intro d
  induction d with
  | zero =>
    intro e n c K A B M hd hn h hK hp
    obtain ⟨n, rfl⟩ : ∃ m, n = m + 1 := ⟨n - 1, by omega⟩
    have ee : e = pc := by omega
    subst ee
    exact br_t (nI_le (by omega) (by omega)) (hp c A B M h)
  | succ d ih =>
    intro e n c K A B M hd hn h hK hp
    obtain ⟨n, rfl⟩ : ∃ m, n = m + 1 := ⟨n - 1, by omega⟩
    have hi : vp_in (nI e) 12 := vp_in_nI (by omega) (by decide)
    refine br_f (nI_ge (by omega) (by omega)) ?_
    rw [nI_clamp (n := e) (by omega)]
    refine ⟨hi, ?_⟩
    by_cases c1 : a_pendTable e = nI r
    · refine br_t c1 ⟨hi, hi, hi, vw_ac (vw_l64 rfl) h (by omega) (fun c' A' B' M' h' => nm_r (nI_1 _) ?_)⟩
      refine ih (e + 1) n c' (K + 1) A' B' M' (by omega) (by omega) (vw_A_eq h' (by omega) (fun p q => ?_)) (by omega) (fun c2 A2 B2 M2 h2 => hp c2 A2 B2 M2 (vw_A_eq h2 (by omega) (fun a b => rfl)))
      show E p q + (vw_pS _ _ _ _ _ p q e + _) = _
      rw [if_pos c1]; omega
    · refine br_f c1 (nm_r (nI_1 _) ?_)
      refine ih (e + 1) n c K A B M (by omega) (by omega) (vw_A_eq h (by omega) (fun p q => ?_)) (by omega) (fun c2 A2 B2 M2 h2 => hp c2 A2 B2 M2 (vw_A_eq h2 (by omega) (fun a b => rfl)))
      show E p q + (vw_pS _ _ _ _ _ p q e + _) = _
      rw [if_neg c1]; omega
theorem vw_xgt {post : SX → Prop} {pc r c : Nat} {E : Int32 → Int32 → Int} (h12 : pc ≤ 12) (hr : r < 11) (h : vw_A a_accA a_accB a_accM c 0 E)
    (hp : ∀ c' A' B' M', vw_A A' B' M' c' 576 (fun p q => E p q + vw_pS a_pendTable a_pendA a_pendB a_pendN (nI r) p q pc) → post (f_width, f_relSlots, f_emptyList, f_accRoom, f_leastInt, f_tableCount, f_maxViews, f_maxRows, f_maxMult, f_side, f_viewCount, nI pc, nI c', f_commits, a_rowA, a_rowB, a_rowM, a_size, a_relKind, a_relLeft, a_relRight, a_relFirst, a_relSecond, a_pendTable, a_pendA, a_pendB, a_pendN, A', B', M')) : wpX_gatherTable post (f_width, f_relSlots, f_emptyList, f_accRoom, f_leastInt, f_tableCount, f_maxViews, f_maxRows, f_maxMult, f_side, f_viewCount, nI pc, nI c, f_commits, a_rowA, a_rowB, a_rowM, a_size, a_relKind, a_relLeft, a_relRight, a_relFirst, a_relSecond, a_pendTable, a_pendA, a_pendB, a_pendN, a_accA, a_accB, a_accM) (nI r) :=
  ⟨pc + 1, vw_xgt_loop (E := E) h12 hr pc 0 _ c 0 _ _ _ (by omega) (by omega) (vw_A_eq h (by omega) (fun p q => Int.add_zero _)) (by omega) (fun c' A' B' M' h' => hp c' A' B' M' (vw_A_eq h' (by omega) (fun p q => rfl)))⟩
end
def vw_bz (T A B N : Nat → Int32) (v : Nat → Int32 → Int32 → Int) (p : Nat) : Prop := ∃ e t, e < p ∧ t < 3 ∧ T e = nI t ∧ v t (A e) (B e) + (N e).toInt < 0
theorem vw_i32add {x y : Int32} (h1 : -9999 ≤ x.toInt) (h2 : x.toInt ≤ 9999) (h3 : -9999 ≤ y.toInt) (h4 : y.toInt ≤ 9999) : (x + y).toInt = x.toInt + y.toInt := by
  rw [Int32.toInt_add]
  exact Int.bmod_eq_of_le (by omega) (by omega)
theorem vw_ge0 {x : Int32} : 0 ≤ x ↔ 0 ≤ x.toInt := by rw [Int32.le_iff_toInt_le]; exact Iff.rfl
section
variable {f_width f_relSlots f_emptyList f_accRoom f_leastInt f_tableCount f_maxViews f_maxRows f_maxMult f_side f_viewCount f_pendCount f_accCount f_commits : Int32} {a_rowA a_rowB a_rowM a_size a_relKind a_relLeft a_relRight a_relFirst a_relSecond a_pendTable a_pendA a_pendB a_pendN a_accA a_accB : Nat → Int32} {a_accM : Nat → Int64}
theorem vw_xbz_loop {post : Int32 → Prop} {pc tc s Mx : Nat} {BX : Nat → List vw_T} (hM : Mx ≤ 9999) (htc : tc ≤ 3) (hs : s ≤ 1) (pd : vw_pd a_pendTable a_pendA a_pendB a_pendN pc tc Mx) (HX : ∀ t, t < tc → vw_H 24 a_rowA a_rowB a_rowM a_size (s * 22 + t) (BX t) ∧ vw_so (BX t) ∧ vw_bg (BX t) Mx)
    (h1 : vw_bz a_pendTable a_pendA a_pendB a_pendN (fun t => vw_v (BX t)) pc → post 1) (h0 : ¬ vw_bz a_pendTable a_pendA a_pendB a_pendN (fun t => vw_v (BX t)) pc → post 0) :
    ∀ d e n, e + d = pc → d < n → ¬ vw_bz a_pendTable a_pendA a_pendB a_pendN (fun t => vw_v (BX t)) e → wX_tableGoesBelowZero_2 post f_width f_relSlots f_emptyList f_accRoom f_leastInt f_tableCount f_maxViews f_maxRows f_maxMult (nI s) f_viewCount (nI pc) f_accCount f_commits a_rowA a_rowB a_rowM a_size a_relKind a_relLeft a_relRight a_relFirst a_relSecond a_pendTable a_pendA a_pendB a_pendN a_accA a_accB a_accM n (nI e) := by
  have h12 := pd.1
  intro d
  induction d with
  | zero =>
    intro e n hd hn2 he
    obtain ⟨n, rfl⟩ : ∃ m, n = m + 1 := ⟨n - 1, by omega⟩
    have ee : e = pc := by omega
    subst ee
    exact br_t (nI_le (by omega) (by omega)) (h0 he)
  | succ d ih =>
    intro e n hd hn2 he
    obtain ⟨n, rfl⟩ : ∃ m, n = m + 1 := ⟨n - 1, by omega⟩
    have hi : vp_in (nI e) 12 := vp_in_nI (by omega) (by decide)
    obtain ⟨t, ht, et⟩ := pd.2.1 e (by omega)
    obtain ⟨H, so, bg⟩ := HX t ht
    have bN := pd.2.2.1 e (by omega)
    refine br_f (nI_ge (by omega) (by omega)) ?_
    rw [nI_clamp (n := e) (by omega), et]
    refine ⟨hi, vw_bl ⟨hi, hi, vw_vi (by omega) H so (fun r er => ⟨hi, ?_⟩)⟩⟩
    have bv := vw_bg_v bg (a_pendA e) (a_pendB e)
    have ea : (r + a_pendN e).toInt = vw_v (BX t) (a_pendA e) (a_pendB e) + (a_pendN e).toInt := by
      rw [vw_i32add (by omega) (by omega) (by omega) (by omega), er]
    refine br_c (fun c1 => nm_r (nI_1 _) (ih (e + 1) n (by omega) (by omega) (fun z => ?_))) (fun c1 => h1 ⟨e, t, by omega, by omega, et, ?_⟩)
    · rw [vw_ge0, ea] at c1
      obtain ⟨e', t', z1, z2, z3, z4⟩ := z
      rcases Nat.lt_or_ge e' e with c2 | c2
      · exact he ⟨e', t', c2, z2, z3, z4⟩
      · have e2 : e' = e := by omega
        subst e2
        have e3 : t' = t := (nI_eq (by omega) (by omega)).mp (z3.symm.trans et)
        subst e3
        dsimp only at z4
        omega
    · rw [vw_ge0, ea] at c1
      dsimp only
      omega
theorem vw_xbz {post : Int32 → Prop} {pc tc s Mx : Nat} {BX : Nat → List vw_T} (hM : Mx ≤ 9999) (htc : tc ≤ 3) (hs : s ≤ 1) (pd : vw_pd a_pendTable a_pendA a_pendB a_pendN pc tc Mx) (HX : ∀ t, t < tc → vw_H 24 a_rowA a_rowB a_rowM a_size (s * 22 + t) (BX t) ∧ vw_so (BX t) ∧ vw_bg (BX t) Mx)
    (h1 : vw_bz a_pendTable a_pendA a_pendB a_pendN (fun t => vw_v (BX t)) pc → post 1) (h0 : ¬ vw_bz a_pendTable a_pendA a_pendB a_pendN (fun t => vw_v (BX t)) pc → post 0) : wpX_tableGoesBelowZero post (f_width, f_relSlots, f_emptyList, f_accRoom, f_leastInt, f_tableCount, f_maxViews, f_maxRows, f_maxMult, nI s, f_viewCount, nI pc, f_accCount, f_commits, a_rowA, a_rowB, a_rowM, a_size, a_relKind, a_relLeft, a_relRight, a_relFirst, a_relSecond, a_pendTable, a_pendA, a_pendB, a_pendN, a_accA, a_accB, a_accM) :=
  ⟨pc + 1, vw_xbz_loop hM htc hs pd HX h1 h0 pc 0 _ (by omega) (by omega) (fun z => by obtain ⟨e', t', z1, _⟩ := z; omega)⟩
end
section
variable {f_tables f_maxViews f_maxRows f_maxMult f_views f_commits f_pendCount f_calcSize : Int32} {a_kinds a_lefts a_rights a_thirds a_fourths a_size a_rowA a_rowB a_rowN a_pendT a_pendA a_pendB a_pendN a_calcA a_calcB a_calcN : Nat → Int32}
theorem vw_yfp_loop {post : Int32 → Prop} {pc : Nat} {t a b : Int32} (h12 : pc ≤ 12) (hn : (∀ e, e < pc → ¬ vw_mt a_pendT a_pendA a_pendB t a b e) → post (-1)) (hs : ∀ e, e < pc → vw_mt a_pendT a_pendA a_pendB t a b e → post (nI e)) :
    ∀ d e n, e + d = pc → d < n → (∀ e', e' < e → ¬ vw_mt a_pendT a_pendA a_pendB t a b e') → wY_findPending_3 post t a b f_tables f_maxViews f_maxRows f_maxMult f_views f_commits (nI pc) f_calcSize a_kinds a_lefts a_rights a_thirds a_fourths a_size a_rowA a_rowB a_rowN a_pendT a_pendA a_pendB a_pendN a_calcA a_calcB a_calcN n (nI e) := by
  intro d
  induction d with
  | zero =>
    intro e n hd hn2 he
    obtain ⟨n, rfl⟩ : ∃ m, n = m + 1 := ⟨n - 1, by omega⟩
    have ee : e = pc := by omega
    subst ee
    exact br_t (nI_le (by omega) (by omega)) (hn he)
  | succ d ih =>
    intro e n hd hn2 he
    obtain ⟨n, rfl⟩ : ∃ m, n = m + 1 := ⟨n - 1, by omega⟩
    have hi : vp_in (nI e) 12 := vp_in_nI (by omega) (by decide)
    have next : ¬ vw_mt a_pendT a_pendA a_pendB t a b e → wY_findPending_3 post t a b f_tables f_maxViews f_maxRows f_maxMult f_views f_commits (nI pc) f_calcSize a_kinds a_lefts a_rights a_thirds a_fourths a_size a_rowA a_rowB a_rowN a_pendT a_pendA a_pendB a_pendN a_calcA a_calcB a_calcN n (nI (e + 1)) := fun ne => ih (e + 1) n (by omega) (by omega) (fun j h1 => by
      rcases Nat.lt_or_ge j e with c1 | c1
      · exact he j c1
      · have e2 : j = e := by omega
        subst e2
        exact ne)
    refine br_f (nI_ge (by omega) (by omega)) ?_
    rw [nI_clamp (n := e) (by omega)]
    exact ⟨hi, br_c (fun c1 => ⟨hi, br_c (fun c2 => ⟨hi, br_c (fun c3 => hs e (by omega) ⟨c1, c2, c3⟩) (fun c3 => nm_r (nI_1 _) (next (fun z => c3 z.2.2)))⟩) (fun c2 => nm_r (nI_1 _) (next (fun z => c2 z.2.1)))⟩) (fun c1 => nm_r (nI_1 _) (next (fun z => c1 z.1)))⟩
theorem vw_yfp {post : Int32 → Prop} {pc : Nat} {t a b : Int32} (h12 : pc ≤ 12) (hn : (∀ e, e < pc → ¬ vw_mt a_pendT a_pendA a_pendB t a b e) → post (-1)) (hs : ∀ e, e < pc → vw_mt a_pendT a_pendA a_pendB t a b e → post (nI e)) : wpY_findPending post (f_tables, f_maxViews, f_maxRows, f_maxMult, f_views, f_commits, nI pc, f_calcSize, a_kinds, a_lefts, a_rights, a_thirds, a_fourths, a_size, a_rowA, a_rowB, a_rowN, a_pendT, a_pendA, a_pendB, a_pendN, a_calcA, a_calcB, a_calcN) t a b :=
  ⟨pc + 1, vw_yfp_loop h12 hn hs pc 0 _ (by omega) (by omega) (fun j h => absurd h (by omega))⟩
theorem vw_yct_loop {post : SY → Prop} {pc r : Nat} {V : Int32 → Int32 → Int} (h12 : pc ≤ 12) (hr : r < 11) :
    ∀ (d e n c K : Nat) (A B N : Nat → Int32), e + d = pc → d < n → vw_C A B N c K (fun p q => V p q + vw_pS a_pendT a_pendA a_pendB a_pendN (nI r) p q e) → K + d ≤ 144 →
    (∀ c' A' B' N', vw_C A' B' N' c' (K + d) (fun p q => V p q + vw_pS a_pendT a_pendA a_pendB a_pendN (nI r) p q pc) → post (f_tables, f_maxViews, f_maxRows, f_maxMult, f_views, f_commits, nI pc, nI c', a_kinds, a_lefts, a_rights, a_thirds, a_fourths, a_size, a_rowA, a_rowB, a_rowN, a_pendT, a_pendA, a_pendB, a_pendN, A', B', N')) →
    wY_compute_25 post (nI r) n (nI e) f_tables f_maxViews f_maxRows f_maxMult f_views f_commits (nI pc) (nI c) a_kinds a_lefts a_rights a_thirds a_fourths a_size a_rowA a_rowB a_rowN a_pendT a_pendA a_pendB a_pendN A B N := by
  intro d
  induction d with
  | zero =>
    intro e n c K A B N hd hn h hK hp
    obtain ⟨n, rfl⟩ : ∃ m, n = m + 1 := ⟨n - 1, by omega⟩
    have ee : e = pc := by omega
    subst ee
    exact br_t (nI_le (by omega) (by omega)) (hp c A B N h)
  | succ d ih =>
    intro e n c K A B N hd hn h hK hp
    obtain ⟨n, rfl⟩ : ∃ m, n = m + 1 := ⟨n - 1, by omega⟩
    have hi : vp_in (nI e) 12 := vp_in_nI (by omega) (by decide)
    refine br_f (nI_ge (by omega) (by omega)) ?_
    rw [nI_clamp (n := e) (by omega)]
    refine ⟨hi, ?_⟩
    by_cases c1 : a_pendT e = nI r
    · refine br_t c1 ⟨hi, hi, hi, vw_yadd (vw_i32 rfl) h (by omega) (fun c' A' B' N' h' => nm_r (nI_1 _) ?_)⟩
      refine ih (e + 1) n c' (K + 1) A' B' N' (by omega) (by omega) (vw_C_eq h' (by omega) (fun p q => ?_)) (by omega) (fun c2 A2 B2 N2 h2 => hp c2 A2 B2 N2 (vw_C_eq h2 (by omega) (fun a b => rfl)))
      show V p q + (vw_pS _ _ _ _ _ p q e + _) = _
      rw [if_pos c1]; omega
    · refine br_f c1 (nm_r (nI_1 _) ?_)
      refine ih (e + 1) n c K A B N (by omega) (by omega) (vw_C_eq h (by omega) (fun p q => ?_)) (by omega) (fun c2 A2 B2 N2 h2 => hp c2 A2 B2 N2 (vw_C_eq h2 (by omega) (fun a b => rfl)))
      show V p q + (vw_pS _ _ _ _ _ p q e + _) = _
      rw [if_neg c1]; omega
theorem vw_yct {post : SY → Prop} {pc r : Nat} {b0 : Int32} {L : List vw_T} (h12 : pc ≤ 12) (hr : r < 11) (ek : a_kinds r = 0) (H : vw_H 12 a_rowA a_rowB a_rowN a_size r L)
    (hp : ∀ c' A' B' N', vw_C A' B' N' c' 144 (fun p q => vw_v L p q + vw_pS a_pendT a_pendA a_pendB a_pendN (nI r) p q pc) → post (f_tables, f_maxViews, f_maxRows, f_maxMult, f_views, f_commits, nI pc, nI c', a_kinds, a_lefts, a_rights, a_thirds, a_fourths, a_size, a_rowA, a_rowB, a_rowN, a_pendT, a_pendA, a_pendB, a_pendN, A', B', N')) : wpY_compute post (f_tables, f_maxViews, f_maxRows, f_maxMult, f_views, f_commits, nI pc, f_calcSize, a_kinds, a_lefts, a_rights, a_thirds, a_fourths, a_size, a_rowA, a_rowB, a_rowN, a_pendT, a_pendA, a_pendB, a_pendN, a_calcA, a_calcB, a_calcN) b0 (nI r) := by
  have w := H.2.1
  refine And.intro (vp_in_nI hr (by decide)) (nm_r (e' := 0) (by rw [nI_clamp (by omega)]; exact ek) (br_t rfl (vw_yab (sg := 1) rfl (by omega) H (vw_C_0 a_calcA a_calcB a_calcN) (by omega) (fun c' A' B' N' h' => ⟨pc + 1, vw_yct_loop (V := fun p q => vw_v L p q) h12 hr pc 0 _ c' L.length A' B' N' (by omega) (by omega) (vw_C_eq h' (by omega) (fun p q => ?_)) (by omega) (fun c2 A2 B2 N2 h2 => hp c2 A2 B2 N2 (vw_C_eq h2 (by omega) (fun p q => rfl)))⟩))))
  show vw_v L p q + 0 = _
  omega
theorem vw_ybz_loop {post : Int32 → SY → Prop} {pc tc Mx : Nat} {BY : Nat → List vw_T} (hM : Mx ≤ 9999) (htc : tc ≤ 3) (pd : vw_pd a_pendT a_pendA a_pendB a_pendN pc tc Mx) (HY : ∀ t, t < tc → vw_H 12 a_rowA a_rowB a_rowN a_size t (BY t) ∧ vw_bg (BY t) Mx)
    (h1 : vw_bz a_pendT a_pendA a_pendB a_pendN (fun t => vw_v (BY t)) pc → post (-7) (f_tables, f_maxViews, f_maxRows, f_maxMult, f_views, f_commits, nI pc, f_calcSize, a_kinds, a_lefts, a_rights, a_thirds, a_fourths, a_size, a_rowA, a_rowB, a_rowN, a_pendT, a_pendA, a_pendB, a_pendN, a_calcA, a_calcB, a_calcN)) (h0 : ¬ vw_bz a_pendT a_pendA a_pendB a_pendN (fun t => vw_v (BY t)) pc → ∃ n65 : Nat, wY_commit_65 post n65 0 f_tables f_maxViews f_maxRows f_maxMult f_views f_commits (nI pc) f_calcSize a_kinds a_lefts a_rights a_thirds a_fourths a_size a_rowA a_rowB a_rowN a_pendT a_pendA a_pendB a_pendN a_calcA a_calcB a_calcN) :
    ∀ d e n, e + d = pc → d < n → ¬ vw_bz a_pendT a_pendA a_pendB a_pendN (fun t => vw_v (BY t)) e → wY_commit_12 post f_tables f_maxViews f_maxRows f_maxMult f_views f_commits (nI pc) f_calcSize a_kinds a_lefts a_rights a_thirds a_fourths a_size a_rowA a_rowB a_rowN a_pendT a_pendA a_pendB a_pendN a_calcA a_calcB a_calcN n (nI e) := by
  have h12 := pd.1
  intro d
  induction d with
  | zero =>
    intro e n hd hn2 he
    obtain ⟨n, rfl⟩ : ∃ m, n = m + 1 := ⟨n - 1, by omega⟩
    have ee : e = pc := by omega
    subst ee
    exact br_t (nI_le (by omega) (by omega)) (h0 he)
  | succ d ih =>
    intro e n hd hn2 he
    obtain ⟨n, rfl⟩ : ∃ m, n = m + 1 := ⟨n - 1, by omega⟩
    have hi : vp_in (nI e) 12 := vp_in_nI (by omega) (by decide)
    obtain ⟨t, ht, et⟩ := pd.2.1 e (by omega)
    obtain ⟨H, bg⟩ := HY t ht
    have bN := pd.2.2.1 e (by omega)
    refine br_f (nI_ge (by omega) (by omega)) ?_
    rw [nI_clamp (n := e) (by omega), et]
    refine ⟨hi, hi, hi, vw_yni (by omega) H bg.1 (fun r er => ⟨hi, ?_⟩)⟩
    have bv := vw_bg_v bg (a_pendA e) (a_pendB e)
    have ea : (r + a_pendN e).toInt = vw_v (BY t) (a_pendA e) (a_pendB e) + (a_pendN e).toInt := by
      rw [vw_i32add (by omega) (by omega) (by omega) (by omega), er]
    refine br_c (fun c1 => nm_r (nI_1 _) (ih (e + 1) n (by omega) (by omega) (fun z => ?_))) (fun c1 => h1 ⟨e, t, by omega, by omega, et, ?_⟩)
    · rw [vw_ge0, ea] at c1
      obtain ⟨e', t', z1, z2, z3, z4⟩ := z
      rcases Nat.lt_or_ge e' e with c2 | c2
      · exact he ⟨e', t', c2, z2, z3, z4⟩
      · have e2 : e' = e := by omega
        subst e2
        have e3 : t' = t := (nI_eq (by omega) (by omega)).mp (z3.symm.trans et)
        subst e3
        dsimp only at z4
        omega
    · rw [vw_ge0, ea] at c1
      dsimp only
      omega
end
end
section
def vw_src (BX : Nat → List vw_T) (x : Int32) : List vw_T := if x < 0 then [] else BX x.toNatClampNeg
def vw_df (kd lf rt : Nat → Int32) (r : Nat) : Prop :=
  (kd r = 1 ∨ kd r = 2 ∨ kd r = 3 ∨ kd r = 4 ∨ kd r = 5 ∨ kd r = 6 ∨ kd r = 7 ∨ kd r = 8 ∨ kd r = 9) ∧ (∃ l, l < r ∧ lf r = nI l) ∧ ((∃ q, q < r ∧ rt r = nI q) ∨ (rt r = -1 ∧ ¬ (kd r = 3 ∨ kd r = 4 ∨ kd r = 5)))
def vw_ws (tc N : Nat) (kd lf rt : Nat → Int32) : Prop := (∀ r, r < tc → kd r = 0) ∧ ∀ r, tc ≤ r → r < N → vw_df kd lf rt r
def vw_X1 (A B M sz : Nat → Int32) (s r Rx Mx : Nat) (L D : List vw_T) : Prop :=
  vw_H 24 A B M sz (s * 22 + r) L ∧ vw_H 24 A B M sz (s * 22 + 11 + r) D ∧ vw_so L ∧ vw_bg L Mx ∧ L.length ≤ Rx ∧ vw_so D ∧ ∀ x, x ∈ D → x.2.2 ≠ 0
def vw_X (A B M sz : Nat → Int32) (s N Rx Mx : Nat) (BX DX : Nat → List vw_T) : Prop := vw_H 24 A B M sz 44 [] ∧ ∀ r, r < N → vw_X1 A B M sz s r Rx Mx (BX r) (DX r)
def vw_Y (A B M sz : Nat → Int32) (N Mx : Nat) (BY WY : Nat → List vw_T) : Prop := ∀ r, r < N → vw_H 12 A B M sz r (BY r) ∧ vw_H 12 A B M sz (11 + r) (WY r) ∧ vw_bg (BY r) Mx ∧ vw_bg (WY r) Mx
def vw_L (N : Nat) (BX DX BY WY : Nat → List vw_T) : Prop := ∀ r, r < N → ∀ a b, vw_v (BY r) a b = vw_v (BX r) a b ∧ vw_v (BX r) a b = vw_v (WY r) a b + vw_v (DX r) a b
def vw_E (tc N : Nat) (kd lf rt th fo : Nat → Int32) (BX : Nat → List vw_T) : Prop := ∀ r, tc ≤ r → r < N → ∀ a b, vw_v (BX r) a b = vw_F (kd r) (th r) (fo r) (vw_src BX (lf r)) (vw_src BX (rt r)) a b
def vw_num (tc vm Rx Mx vc s : Nat) : Prop := tc ≤ 3 ∧ vm ≤ 8 ∧ Rx ≤ 12 ∧ Mx ≤ 9999 ∧ vc ≤ vm ∧ s ≤ 1
def vw_R (tc vm Rx Mx vc pc s : Nat) (a_rowA a_rowB a_rowM a_size a_relKind a_relLeft a_relRight a_relFirst a_relSecond a_pendTable a_pendA a_pendB a_pendN b_rowA b_rowB b_rowN b_size : Nat → Int32) : Prop :=
  ∃ BX DX BY WY : Nat → List vw_T, vw_num tc vm Rx Mx vc s ∧ vw_X a_rowA a_rowB a_rowM a_size s (tc + vc) Rx Mx BX DX ∧ vw_Y b_rowA b_rowB b_rowN b_size (tc + vc) Mx BY WY ∧ vw_L (tc + vc) BX DX BY WY ∧ vw_E tc (tc + vc) a_relKind a_relLeft a_relRight a_relFirst a_relSecond BX ∧ vw_ws tc (tc + vc) a_relKind a_relLeft a_relRight ∧ vw_pd a_pendTable a_pendA a_pendB a_pendN pc tc Mx
def vw_Q (tc vm Rx Mx vc pc s : Nat) (f_width f_relSlots f_emptyList f_accRoom f_leastInt f_accCount f_commits f_calcSize : Int32) (a_rowA a_rowB a_rowM a_size a_relKind a_relLeft a_relRight a_relFirst a_relSecond a_pendTable a_pendA a_pendB a_pendN a_accA a_accB : Nat → Int32) (a_accM : Nat → Int64) (b_rowA b_rowB b_rowN b_size c_A c_B c_N : Nat → Int32) (u : SX) (v : SY) : Prop := u = (f_width, f_relSlots, f_emptyList, f_accRoom, f_leastInt, nI tc, nI vm, nI Rx, nI Mx, nI s, nI vc, nI pc, f_accCount, f_commits, a_rowA, a_rowB, a_rowM, a_size, a_relKind, a_relLeft, a_relRight, a_relFirst, a_relSecond, a_pendTable, a_pendA, a_pendB, a_pendN, a_accA, a_accB, a_accM) ∧ v = (nI tc, nI vm, nI Rx, nI Mx, nI vc, f_commits, nI pc, f_calcSize, a_relKind, a_relLeft, a_relRight, a_relFirst, a_relSecond, b_size, b_rowA, b_rowB, b_rowN, a_pendTable, a_pendA, a_pendB, a_pendN, c_A, c_B, c_N) ∧ vw_R tc vm Rx Mx vc pc s a_rowA a_rowB a_rowM a_size a_relKind a_relLeft a_relRight a_relFirst a_relSecond a_pendTable a_pendA a_pendB a_pendN b_rowA b_rowB b_rowN b_size
def i_Rel (k : Nat) (u : SX) (v : SY) : Prop := ∃ tc vm Rx Mx vc pc s : Nat, ∃ f_width f_relSlots f_emptyList f_accRoom f_leastInt f_accCount f_commits f_calcSize : Int32, ∃ a_rowA a_rowB a_rowM a_size a_relKind a_relLeft a_relRight a_relFirst a_relSecond a_pendTable a_pendA a_pendB a_pendN a_accA a_accB : Nat → Int32, ∃ a_accM : Nat → Int64, ∃ b_rowA b_rowB b_rowN b_size c_A c_B c_N : Nat → Int32, vw_Q tc vm Rx Mx vc pc s f_width f_relSlots f_emptyList f_accRoom f_leastInt f_accCount f_commits f_calcSize a_rowA a_rowB a_rowM a_size a_relKind a_relLeft a_relRight a_relFirst a_relSecond a_pendTable a_pendA a_pendB a_pendN a_accA a_accB a_accM b_rowA b_rowB b_rowN b_size c_A c_B c_N u v
theorem i_up {k : Nat} {u : SX} {v : SY} (h : i_Rel k u v) : i_Rel (k + 5) u v := h
theorem vw_in {k : Nat} {tc vm Rx Mx vc pc s : Nat} {f_width f_relSlots f_emptyList f_accRoom f_leastInt f_accCount f_commits f_calcSize : Int32} {a_rowA a_rowB a_rowM a_size a_relKind a_relLeft a_relRight a_relFirst a_relSecond a_pendTable a_pendA a_pendB a_pendN a_accA a_accB : Nat → Int32} {a_accM : Nat → Int64} {b_rowA b_rowB b_rowN b_size c_A c_B c_N : Nat → Int32} (h : vw_R tc vm Rx Mx vc pc s a_rowA a_rowB a_rowM a_size a_relKind a_relLeft a_relRight a_relFirst a_relSecond a_pendTable a_pendA a_pendB a_pendN b_rowA b_rowB b_rowN b_size) : i_Rel k (f_width, f_relSlots, f_emptyList, f_accRoom, f_leastInt, nI tc, nI vm, nI Rx, nI Mx, nI s, nI vc, nI pc, f_accCount, f_commits, a_rowA, a_rowB, a_rowM, a_size, a_relKind, a_relLeft, a_relRight, a_relFirst, a_relSecond, a_pendTable, a_pendA, a_pendB, a_pendN, a_accA, a_accB, a_accM) (nI tc, nI vm, nI Rx, nI Mx, nI vc, f_commits, nI pc, f_calcSize, a_relKind, a_relLeft, a_relRight, a_relFirst, a_relSecond, b_size, b_rowA, b_rowB, b_rowN, a_pendTable, a_pendA, a_pendB, a_pendN, c_A, c_B, c_N) :=
  ⟨_, _, _, _, _, _, _, _, _, _, _, _, _, _, _, _, _, _, _, _, _, _, _, _, _, _, _, _, _, _, _, _, _, _, _, _, _, _, rfl, rfl, h⟩
theorem vw_el1 {P : SX → SY → Prop} (h : ∀ (tc vm Rx Mx vc pc s : Nat) (f_width f_relSlots f_emptyList f_accRoom f_leastInt f_accCount f_commits f_calcSize : Int32) (a_rowA a_rowB a_rowM a_size a_relKind a_relLeft a_relRight a_relFirst a_relSecond a_pendTable a_pendA a_pendB a_pendN a_accA a_accB : Nat → Int32) (a_accM : Nat → Int64) (b_rowA b_rowB b_rowN b_size c_A c_B c_N : Nat → Int32), vw_R tc vm Rx Mx vc pc s a_rowA a_rowB a_rowM a_size a_relKind a_relLeft a_relRight a_relFirst a_relSecond a_pendTable a_pendA a_pendB a_pendN b_rowA b_rowB b_rowN b_size → P (f_width, f_relSlots, f_emptyList, f_accRoom, f_leastInt, nI tc, nI vm, nI Rx, nI Mx, nI s, nI vc, nI pc, f_accCount, f_commits, a_rowA, a_rowB, a_rowM, a_size, a_relKind, a_relLeft, a_relRight, a_relFirst, a_relSecond, a_pendTable, a_pendA, a_pendB, a_pendN, a_accA, a_accB, a_accM) (nI tc, nI vm, nI Rx, nI Mx, nI vc, f_commits, nI pc, f_calcSize, a_relKind, a_relLeft, a_relRight, a_relFirst, a_relSecond, b_size, b_rowA, b_rowB, b_rowN, a_pendTable, a_pendA, a_pendB, a_pendN, c_A, c_B, c_N)) {u : SX} {v : SY} {tc vm Rx Mx vc pc s : Nat} {f_width f_relSlots f_emptyList f_accRoom f_leastInt f_accCount f_commits f_calcSize : Int32} {a_rowA a_rowB a_rowM a_size a_relKind a_relLeft a_relRight a_relFirst a_relSecond a_pendTable a_pendA a_pendB a_pendN a_accA a_accB : Nat → Int32} {a_accM : Nat → Int64} {b_rowA b_rowB b_rowN b_size c_A c_B c_N : Nat → Int32} (I : vw_Q tc vm Rx Mx vc pc s f_width f_relSlots f_emptyList f_accRoom f_leastInt f_accCount f_commits f_calcSize a_rowA a_rowB a_rowM a_size a_relKind a_relLeft a_relRight a_relFirst a_relSecond a_pendTable a_pendA a_pendB a_pendN a_accA a_accB a_accM b_rowA b_rowB b_rowN b_size c_A c_B c_N u v) : P u v := by
  obtain ⟨e1, e2, hR⟩ := I
  rw [e1, e2]
  exact h tc vm Rx Mx vc pc s f_width f_relSlots f_emptyList f_accRoom f_leastInt f_accCount f_commits f_calcSize a_rowA a_rowB a_rowM a_size a_relKind a_relLeft a_relRight a_relFirst a_relSecond a_pendTable a_pendA a_pendB a_pendN a_accA a_accB a_accM b_rowA b_rowB b_rowN b_size c_A c_B c_N hR
theorem vw_el {P : SX → SY → Prop} {k : Nat} {u : SX} {v : SY} (h : ∀ (tc vm Rx Mx vc pc s : Nat) (f_width f_relSlots f_emptyList f_accRoom f_leastInt f_accCount f_commits f_calcSize : Int32) (a_rowA a_rowB a_rowM a_size a_relKind a_relLeft a_relRight a_relFirst a_relSecond a_pendTable a_pendA a_pendB a_pendN a_accA a_accB : Nat → Int32) (a_accM : Nat → Int64) (b_rowA b_rowB b_rowN b_size c_A c_B c_N : Nat → Int32), vw_R tc vm Rx Mx vc pc s a_rowA a_rowB a_rowM a_size a_relKind a_relLeft a_relRight a_relFirst a_relSecond a_pendTable a_pendA a_pendB a_pendN b_rowA b_rowB b_rowN b_size → P (f_width, f_relSlots, f_emptyList, f_accRoom, f_leastInt, nI tc, nI vm, nI Rx, nI Mx, nI s, nI vc, nI pc, f_accCount, f_commits, a_rowA, a_rowB, a_rowM, a_size, a_relKind, a_relLeft, a_relRight, a_relFirst, a_relSecond, a_pendTable, a_pendA, a_pendB, a_pendN, a_accA, a_accB, a_accM) (nI tc, nI vm, nI Rx, nI Mx, nI vc, f_commits, nI pc, f_calcSize, a_relKind, a_relLeft, a_relRight, a_relFirst, a_relSecond, b_size, b_rowA, b_rowB, b_rowN, a_pendTable, a_pendA, a_pendB, a_pendN, c_A, c_B, c_N)) (I : i_Rel k u v) : P u v :=
  Exists.elim I (fun _ I => Exists.elim I (fun _ I => Exists.elim I (fun _ I => Exists.elim I (fun _ I => Exists.elim I (fun _ I => Exists.elim I (fun _ I => Exists.elim I (fun _ I => Exists.elim I (fun _ I => Exists.elim I (fun _ I => Exists.elim I (fun _ I => Exists.elim I (fun _ I => Exists.elim I (fun _ I => Exists.elim I (fun _ I => Exists.elim I (fun _ I => Exists.elim I (fun _ I => Exists.elim I (fun _ I => Exists.elim I (fun _ I => Exists.elim I (fun _ I => Exists.elim I (fun _ I => Exists.elim I (fun _ I => Exists.elim I (fun _ I => Exists.elim I (fun _ I => Exists.elim I (fun _ I => Exists.elim I (fun _ I => Exists.elim I (fun _ I => Exists.elim I (fun _ I => Exists.elim I (fun _ I => Exists.elim I (fun _ I => Exists.elim I (fun _ I => Exists.elim I (fun _ I => Exists.elim I (fun _ I => Exists.elim I (fun _ I => Exists.elim I (fun _ I => Exists.elim I (fun _ I => Exists.elim I (fun _ I => Exists.elim I (fun _ I => Exists.elim I (fun _ I => Exists.elim I (fun _ I => vw_el1 h I))))))))))))))))))))))))))))))))))))))
end
section
section
variable {f_width f_relSlots f_emptyList f_accRoom f_leastInt f_tableCount f_maxViews f_maxRows f_maxMult f_side f_viewCount f_pendCount f_accCount f_commits : Int32} {a_rowA a_rowB a_rowM a_size a_relKind a_relLeft a_relRight a_relFirst a_relSecond a_pendTable a_pendA a_pendB a_pendN a_accA a_accB : Nat → Int32} {a_accM : Nat → Int64}
theorem vw_xe0 {post : Int32 → Prop} {tc vc : Nat} {p0 : Int32} (h : p0 < 0 ∨ nI (tc + vc) ≤ p0) (hp : post 0) : wpX_exists post (f_width, f_relSlots, f_emptyList, f_accRoom, f_leastInt, nI tc, f_maxViews, f_maxRows, f_maxMult, f_side, nI vc, f_pendCount, f_accCount, f_commits, a_rowA, a_rowB, a_rowM, a_size, a_relKind, a_relLeft, a_relRight, a_relFirst, a_relSecond, a_pendTable, a_pendA, a_pendB, a_pendN, a_accA, a_accB, a_accM) p0 := by
  refine br_c (fun _ => hp) (fun n => br_c (fun _ => hp) (fun n2 => ?_))
  rw [nI_add] at n2
  exact absurd h (fun z => z.elim n n2)
theorem vw_xe1 {post : Int32 → Prop} {tc vc r : Nat} (hN : tc + vc ≤ 11) (hr : r < tc + vc) (hp : post 1) : wpX_exists post (f_width, f_relSlots, f_emptyList, f_accRoom, f_leastInt, nI tc, f_maxViews, f_maxRows, f_maxMult, f_side, nI vc, f_pendCount, f_accCount, f_commits, a_rowA, a_rowB, a_rowM, a_size, a_relKind, a_relLeft, a_relRight, a_relFirst, a_relSecond, a_pendTable, a_pendA, a_pendB, a_pendN, a_accA, a_accB, a_accM) (nI r) := by
  refine br_f (nI_pos (by omega)) (br_f ?_ hp)
  rw [nI_add]
  exact nI_ge hr (by omega)
theorem vw_sm0 {post : Int32 → Prop} {L : List vw_T} {l : Nat} (hl : l < 45) (H : vw_H 24 a_rowA a_rowB a_rowM a_size l L) (hp : post (Int32.ofInt (vw_S L (fun x => x.2.2)))) : wpX_sumOfMultiplicities post (f_width, f_relSlots, f_emptyList, f_accRoom, f_leastInt, f_tableCount, f_maxViews, f_maxRows, f_maxMult, f_side, f_viewCount, f_pendCount, f_accCount, f_commits, a_rowA, a_rowB, a_rowM, a_size, a_relKind, a_relLeft, a_relRight, a_relFirst, a_relSecond, a_pendTable, a_pendA, a_pendB, a_pendN, a_accA, a_accB, a_accM) (nI l) 0 (nI L.length) := by
  refine nm_r (e' := nI (l * 24)) (pk_mul l 24) ⟨L.length + 1, ?_⟩
  exact vw_sm_loop (S := []) hl H L [] _ 0 L.length (by simp) (by omega) (by simp) (by rw [Int.zero_add]; exact hp)
end
section
variable {f_tables f_maxViews f_maxRows f_maxMult f_views f_commits f_pendCount f_calcSize : Int32} {a_kinds a_lefts a_rights a_thirds a_fourths a_size a_rowA a_rowB a_rowN a_pendT a_pendA a_pendB a_pendN a_calcA a_calcB a_calcN : Nat → Int32}
theorem vw_ye0 {post : Int32 → Prop} {tc vc : Nat} {p0 : Int32} (h : p0 < 0 ∨ nI (tc + vc) ≤ p0) (hp : post 0) : wpY_exists post (nI tc, f_maxViews, f_maxRows, f_maxMult, nI vc, f_commits, f_pendCount, f_calcSize, a_kinds, a_lefts, a_rights, a_thirds, a_fourths, a_size, a_rowA, a_rowB, a_rowN, a_pendT, a_pendA, a_pendB, a_pendN, a_calcA, a_calcB, a_calcN) p0 := by
  refine br_c (fun _ => hp) (fun n => br_c (fun _ => hp) (fun n2 => ?_))
  rw [nI_add] at n2
  exact absurd h (fun z => z.elim n n2)
theorem vw_ye1 {post : Int32 → Prop} {tc vc r : Nat} (hN : tc + vc ≤ 11) (hr : r < tc + vc) (hp : post 1) : wpY_exists post (nI tc, f_maxViews, f_maxRows, f_maxMult, nI vc, f_commits, f_pendCount, f_calcSize, a_kinds, a_lefts, a_rights, a_thirds, a_fourths, a_size, a_rowA, a_rowB, a_rowN, a_pendT, a_pendA, a_pendB, a_pendN, a_calcA, a_calcB, a_calcN) (nI r) := by
  refine br_f (nI_pos (by omega)) (br_f ?_ hp)
  rw [nI_add]
  exact nI_ge hr (by omega)
theorem vw_ytr_loop {post : Int32 → Prop} {L : List vw_T} {g : Nat} (hg : g < 33) (H : vw_H 12 a_rowA a_rowB a_rowN a_size g L) (hp : post (Int32.ofInt (vw_W L (fun _ _ => 1)))) :
    ∀ (Q P : List vw_T) (n : Nat), L = P ++ Q → Q.length < n → wY_totalRows_14 post (nI g) f_tables f_maxViews f_maxRows f_maxMult f_views f_commits f_pendCount f_calcSize a_kinds a_lefts a_rights a_thirds a_fourths a_size a_rowA a_rowB a_rowN a_pendT a_pendA a_pendB a_pendN a_calcA a_calcB a_calcN n (Int32.ofInt (vw_W P (fun _ _ => 1))) (nI P.length) := by
  have hw := H.2.1
  have eg : (nI g).toNatClampNeg = g := nI_clamp (by omega)
  have ig : vp_in (nI g) 33 := vp_in_nI hg (by decide)
  intro Q
  induction Q with
  | nil =>
    intro P n e hn
    obtain ⟨n, rfl⟩ : ∃ m, n = m + 1 := ⟨n - 1, by omega⟩
    rw [List.append_nil] at e
    subst e
    refine And.intro ig (br_t ?_ hp)
    rw [eg, H.1]; exact nI_le (by omega) (by omega)
  | cons x Q ih =>
    intro P n e hn
    obtain ⟨n, rfl⟩ : ∃ m, n = m + 1 := ⟨n - 1, by omega⟩
    have hx : L[P.length]? = some x := by rw [e]; exact vw_mid _ _ _
    have hH := H.2.2 _ x hx
    have hlt := vw_ix hx
    rw [List.length_cons] at hn
    have hi : vp_in (nI (g * 12 + P.length)) 396 := vp_in_nI (by omega) (by decide)
    have gg := ih (P ++ [x]) n (by rw [e]; simp) (by omega)
    rw [vw_len1, vw_W_app, vw_W_cons, vw_W_nil, Int.add_zero, Int.one_mul] at gg
    refine And.intro ig (br_f ?_ ?_)
    · rw [eg, H.1]; exact nI_ge hlt (by omega)
    rw [vw_e12, nI_clamp (by omega), vw_i32 hH.2.2]
    exact ⟨hi, nm_r (Int32.ofInt_add _ _).symm (nm_r (nI_1 _) gg)⟩
end
theorem vw_perm {S C : List vw_T} (ndS : vw_nd S) (ndC : vw_nd C) (nzS : ∀ x, x ∈ S → x.2.2 ≠ 0) (nzC : ∀ x, x ∈ C → x.2.2 ≠ 0) (hv : ∀ a b, vw_v C a b = vw_v S a b) : C.length = S.length := by
  have pm : S.Perm C := by
    rw [List.perm_ext_iff_of_nodup (vw_nd_nodup ndS) (vw_nd_nodup ndC)]
    exact fun y => ⟨fun hy => vw_tr_mem ndS ndC hv hy (nzS y hy), fun hy => vw_tr_mem ndC ndS (fun a b => (hv a b).symm) hy (nzC y hy)⟩
  exact pm.length_eq.symm
theorem vw_ps_nz {L : List vw_T} (h : vw_ps L) : ∀ x, x ∈ L → x.2.2 ≠ 0 := fun x hx => Int.ne_of_gt (h x hx)
theorem vw_num_N {tc vm Rx Mx vc s : Nat} (h : vw_num tc vm Rx Mx vc s) : tc + vc ≤ 11 := by
  obtain ⟨h1, h2, h3, h4, h5, h6⟩ := h
  omega
theorem i_vc_relations {k : Nat} {u : SX} {v : SY} (I : i_Rel k u v) (hk : k + 5 ≤ 2564) : wpX_relations (fun r => wpY_relations (fun r' => r' = r ∧ i_Rel (k + 5) u v) v) u := by
  refine vw_el (P := fun u v => wpX_relations (fun r => wpY_relations (fun r' => r' = r ∧ i_Rel (k + 5) u v) v) u) ?_ I
  intro tc vm Rx Mx vc pc s f_width f_relSlots f_emptyList f_accRoom f_leastInt f_accCount f_commits f_calcSize a_rowA a_rowB a_rowM a_size a_relKind a_relLeft a_relRight a_relFirst a_relSecond a_pendTable a_pendA a_pendB a_pendN a_accA a_accB a_accM b_rowA b_rowB b_rowN b_size c_A c_B c_N hR
  exact ⟨rfl, vw_in hR⟩
theorem i_vc_limitOf {k : Nat} {u : SX} {v : SY} (I : i_Rel k u v) (hk : k + 5 ≤ 2564) (v1 : Int32) : wpX_limitOf (fun r => wpY_limitOf (fun r' => r' = r ∧ i_Rel (k + 5) u v) v v1) u v1 := by
  refine vw_el (P := fun u v => wpX_limitOf (fun r => wpY_limitOf (fun r' => r' = r ∧ i_Rel (k + 5) u v) v v1) u v1) ?_ I
  intro tc vm Rx Mx vc pc s f_width f_relSlots f_emptyList f_accRoom f_leastInt f_accCount f_commits f_calcSize a_rowA a_rowB a_rowM a_size a_relKind a_relLeft a_relRight a_relFirst a_relSecond a_pendTable a_pendA a_pendB a_pendN a_accA a_accB a_accM b_rowA b_rowB b_rowN b_size c_A c_B c_N hR
  refine br_c (fun e0 => br_t e0 ⟨rfl, vw_in hR⟩) (fun n0 => br_c (fun e1 => br_f n0 (br_t e1 ⟨rfl, vw_in hR⟩)) (fun n1 => br_c (fun e2 => br_f n0 (br_f n1 (br_t e2 ⟨rfl, vw_in hR⟩))) (fun n2 => br_c (fun e3 => br_f n0 (br_f n1 (br_f n2 (br_t e3 ⟨rfl, vw_in hR⟩)))) (fun n3 => br_f n0 (br_f n1 (br_f n2 (br_f n3 ⟨rfl, vw_in hR⟩)))))))
theorem i_vc_kindOf {k : Nat} {u : SX} {v : SY} (I : i_Rel k u v) (hk : k + 5 ≤ 2564) (v1 : Int32) : wpX_kindOf (fun r => wpY_kindOf (fun r' => r' = r ∧ i_Rel (k + 5) u v) v v1) u v1 := by
  refine vw_el (P := fun u v => wpX_kindOf (fun r => wpY_kindOf (fun r' => r' = r ∧ i_Rel (k + 5) u v) v v1) u v1) ?_ I
  intro tc vm Rx Mx vc pc s f_width f_relSlots f_emptyList f_accRoom f_leastInt f_accCount f_commits f_calcSize a_rowA a_rowB a_rowM a_size a_relKind a_relLeft a_relRight a_relFirst a_relSecond a_pendTable a_pendA a_pendB a_pendN a_accA a_accB a_accM b_rowA b_rowB b_rowN b_size c_A c_B c_N hR
  have hN : tc + vc ≤ 11 := by obtain ⟨_, _, _, _, hnum, _⟩ := hR; exact vw_num_N hnum
  unfold wpX_kindOf wpY_kindOf
  dsimp only
  have c0 : v1 < 0 ∨ nI (tc + vc) ≤ v1 ∨ ∃ j, j < tc + vc ∧ v1 = nI j := pk_ix v1 (by omega)
  rcases c0 with c | c | ⟨r, hr, rfl⟩
  · exact vw_xe0 (Or.inl c) (br_t rfl (vw_ye0 (Or.inl c) (br_t rfl ⟨rfl, vw_in hR⟩)))
  · exact vw_xe0 (Or.inr c) (br_t rfl (vw_ye0 (Or.inr c) (br_t rfl ⟨rfl, vw_in hR⟩)))
  · have hi : vp_in (nI r) 11 := vp_in_nI (by omega) (by decide)
    exact vw_xe1 hN hr (br_f (by decide) ⟨hi, vw_ye1 hN hr (br_f (by decide) ⟨hi, rfl, vw_in hR⟩)⟩)
theorem i_vc_partOf {k : Nat} {u : SX} {v : SY} (I : i_Rel k u v) (hk : k + 5 ≤ 2564) (v1 : Int32) (v2 : Int32) : wpX_partOf (fun r => wpY_partOf (fun r' => r' = r ∧ i_Rel (k + 5) u v) v v1 v2) u v1 v2 := by
  refine vw_el (P := fun u v => wpX_partOf (fun r => wpY_partOf (fun r' => r' = r ∧ i_Rel (k + 5) u v) v v1 v2) u v1 v2) ?_ I
  intro tc vm Rx Mx vc pc s f_width f_relSlots f_emptyList f_accRoom f_leastInt f_accCount f_commits f_calcSize a_rowA a_rowB a_rowM a_size a_relKind a_relLeft a_relRight a_relFirst a_relSecond a_pendTable a_pendA a_pendB a_pendN a_accA a_accB a_accM b_rowA b_rowB b_rowN b_size c_A c_B c_N hR
  have hN : tc + vc ≤ 11 := by obtain ⟨_, _, _, _, hnum, _⟩ := hR; exact vw_num_N hnum
  unfold wpX_partOf wpY_partOf
  dsimp only
  have c0 : v1 < 0 ∨ nI (tc + vc) ≤ v1 ∨ ∃ j, j < tc + vc ∧ v1 = nI j := pk_ix v1 (by omega)
  rcases c0 with c | c | ⟨r, hr, rfl⟩
  · exact vw_xe0 (Or.inl c) (br_t rfl (vw_ye0 (Or.inl c) (br_t rfl ⟨rfl, vw_in hR⟩)))
  · exact vw_xe0 (Or.inr c) (br_t rfl (vw_ye0 (Or.inr c) (br_t rfl ⟨rfl, vw_in hR⟩)))
  · have hi : vp_in (nI r) 11 := vp_in_nI (by omega) (by decide)
    refine vw_xe1 hN hr (br_f (by decide) (br_c (fun e0 => ⟨hi, ?_⟩) (fun n0 => br_c (fun e1 => ⟨hi, ?_⟩) (fun n1 => br_c (fun e2 => ⟨hi, ?_⟩) (fun n2 => br_c (fun e3 => ⟨hi, ?_⟩) (fun n3 => ?_))))))
    · exact vw_ye1 hN hr (br_f (by decide) (br_t e0 ⟨hi, rfl, vw_in hR⟩))
    · exact vw_ye1 hN hr (br_f (by decide) (br_f n0 (br_t e1 ⟨hi, rfl, vw_in hR⟩)))
    · exact vw_ye1 hN hr (br_f (by decide) (br_f n0 (br_f n1 (br_t e2 ⟨hi, rfl, vw_in hR⟩))))
    · exact vw_ye1 hN hr (br_f (by decide) (br_f n0 (br_f n1 (br_f n2 (br_t e3 ⟨hi, rfl, vw_in hR⟩)))))
    · exact vw_ye1 hN hr (br_f (by decide) (br_f n0 (br_f n1 (br_f n2 (br_f n3 ⟨rfl, vw_in hR⟩)))))
theorem i_vc_batches {k : Nat} {u : SX} {v : SY} (I : i_Rel k u v) (hk : k + 5 ≤ 2564) : wpX_batches (fun r => wpY_batches (fun r' => r' = r ∧ i_Rel (k + 5) u v) v) u := by
  refine vw_el (P := fun u v => wpX_batches (fun r => wpY_batches (fun r' => r' = r ∧ i_Rel (k + 5) u v) v) u) ?_ I
  intro tc vm Rx Mx vc pc s f_width f_relSlots f_emptyList f_accRoom f_leastInt f_accCount f_commits f_calcSize a_rowA a_rowB a_rowM a_size a_relKind a_relLeft a_relRight a_relFirst a_relSecond a_pendTable a_pendA a_pendB a_pendN a_accA a_accB a_accM b_rowA b_rowB b_rowN b_size c_A c_B c_N hR
  exact ⟨rfl, vw_in hR⟩
theorem i_vc_pendingSize {k : Nat} {u : SX} {v : SY} (I : i_Rel k u v) (hk : k + 5 ≤ 2564) : wpX_pendingSize (fun r => wpY_pendingSize (fun r' => r' = r ∧ i_Rel (k + 5) u v) v) u := by
  refine vw_el (P := fun u v => wpX_pendingSize (fun r => wpY_pendingSize (fun r' => r' = r ∧ i_Rel (k + 5) u v) v) u) ?_ I
  intro tc vm Rx Mx vc pc s f_width f_relSlots f_emptyList f_accRoom f_leastInt f_accCount f_commits f_calcSize a_rowA a_rowB a_rowM a_size a_relKind a_relLeft a_relRight a_relFirst a_relSecond a_pendTable a_pendA a_pendB a_pendN a_accA a_accB a_accM b_rowA b_rowB b_rowN b_size c_A c_B c_N hR
  exact ⟨rfl, vw_in hR⟩
theorem i_vc_pendingOf {k : Nat} {u : SX} {v : SY} (I : i_Rel k u v) (hk : k + 5 ≤ 2564) (v1 : Int32) (v2 : Int32) (v3 : Int32) : wpX_pendingOf (fun r => wpY_pendingOf (fun r' => r' = r ∧ i_Rel (k + 5) u v) v v1 v2 v3) u v1 v2 v3 := by
  refine vw_el (P := fun u v => wpX_pendingOf (fun r => wpY_pendingOf (fun r' => r' = r ∧ i_Rel (k + 5) u v) v v1 v2 v3) u v1 v2 v3) ?_ I
  intro tc vm Rx Mx vc pc s f_width f_relSlots f_emptyList f_accRoom f_leastInt f_accCount f_commits f_calcSize a_rowA a_rowB a_rowM a_size a_relKind a_relLeft a_relRight a_relFirst a_relSecond a_pendTable a_pendA a_pendB a_pendN a_accA a_accB a_accM b_rowA b_rowB b_rowN b_size c_A c_B c_N hR
  have pd : vw_pd a_pendTable a_pendA a_pendB a_pendN pc tc Mx := by obtain ⟨_, _, _, _, _, _, _, _, _, _, pd⟩ := hR; exact pd
  have h12 := pd.1
  unfold wpX_pendingOf wpY_pendingOf
  dsimp only
  refine vw_xfp h12 (fun hn => br_f (by decide) (vw_yfp h12 (fun _ => br_f (by decide) ⟨rfl, vw_in hR⟩) (fun e he hm => absurd hm (hn e he)))) (fun e he hm => ?_)
  have hi : vp_in (nI e) 12 := vp_in_nI (by omega) (by decide)
  refine br_t (nI_pos' (by omega)) ⟨hi, vw_yfp h12 (fun hn => absurd hm (hn e he)) (fun e' he' hm' => ?_)⟩
  have ee : e' = e := pd.2.2.2 e' e he' he (by obtain ⟨m1, m2, m3⟩ := hm; rw [m1, m2, m3]; exact hm')
  subst ee
  exact br_t (nI_pos' (by omega)) ⟨hi, rfl, vw_in hR⟩
theorem i_vc_multiplicity {k : Nat} {u : SX} {v : SY} (I : i_Rel k u v) (hk : k + 5 ≤ 2564) (v1 : Int32) (v2 : Int32) (v3 : Int32) : wpX_multiplicity (fun r => wpY_multiplicity (fun r' => r' = r ∧ i_Rel (k + 5) u v) v v1 v2 v3) u v1 v2 v3 := by
  refine vw_el (P := fun u v => wpX_multiplicity (fun r => wpY_multiplicity (fun r' => r' = r ∧ i_Rel (k + 5) u v) v v1 v2 v3) u v1 v2 v3) ?_ I
  intro tc vm Rx Mx vc pc s f_width f_relSlots f_emptyList f_accRoom f_leastInt f_accCount f_commits f_calcSize a_rowA a_rowB a_rowM a_size a_relKind a_relLeft a_relRight a_relFirst a_relSecond a_pendTable a_pendA a_pendB a_pendN a_accA a_accB a_accM b_rowA b_rowB b_rowN b_size c_A c_B c_N hR
  obtain ⟨BX, DX, BY, WY, hnum, hX, hY, hL, _⟩ := id hR
  have hN := vw_num_N hnum
  have hs := hnum.2.2.2.2.2
  unfold wpX_multiplicity wpY_multiplicity
  dsimp only
  have c0 : v1 < 0 ∨ nI (tc + vc) ≤ v1 ∨ ∃ j, j < tc + vc ∧ v1 = nI j := pk_ix v1 (by omega)
  rcases c0 with c | c | ⟨r, hr, rfl⟩
  · exact vw_xe0 (Or.inl c) (br_t rfl (vw_ye0 (Or.inl c) (br_t rfl ⟨rfl, vw_in hR⟩)))
  · exact vw_xe0 (Or.inr c) (br_t rfl (vw_ye0 (Or.inr c) (br_t rfl ⟨rfl, vw_in hR⟩)))
  · have x1 := hX.2 r hr
    have y1 := hY r hr
    refine vw_xe1 hN hr (br_f (by decide) (vw_bl (vw_vi (by omega) x1.1 x1.2.2.1 (fun r1 e1 => vw_ye1 hN hr (br_f (by decide) (vw_yni (by omega) y1.1 y1.2.2.1.1 (fun r2 e2 => ⟨?_, vw_in hR⟩)))))))
    exact Int32.toInt_inj.mp (by rw [e1, e2, (hL r hr v2 v3).1])
theorem i_vc_distinctRows {k : Nat} {u : SX} {v : SY} (I : i_Rel k u v) (hk : k + 5 ≤ 2564) (v1 : Int32) : wpX_distinctRows (fun r => wpY_distinctRows (fun r' => r' = r ∧ i_Rel (k + 5) u v) v v1) u v1 := by
  refine vw_el (P := fun u v => wpX_distinctRows (fun r => wpY_distinctRows (fun r' => r' = r ∧ i_Rel (k + 5) u v) v v1) u v1) ?_ I
  intro tc vm Rx Mx vc pc s f_width f_relSlots f_emptyList f_accRoom f_leastInt f_accCount f_commits f_calcSize a_rowA a_rowB a_rowM a_size a_relKind a_relLeft a_relRight a_relFirst a_relSecond a_pendTable a_pendA a_pendB a_pendN a_accA a_accB a_accM b_rowA b_rowB b_rowN b_size c_A c_B c_N hR
  obtain ⟨BX, DX, BY, WY, hnum, hX, hY, hL, _⟩ := id hR
  have hN := vw_num_N hnum
  have hs := hnum.2.2.2.2.2
  unfold wpX_distinctRows wpY_distinctRows
  dsimp only
  have c0 : v1 < 0 ∨ nI (tc + vc) ≤ v1 ∨ ∃ j, j < tc + vc ∧ v1 = nI j := pk_ix v1 (by omega)
  rcases c0 with c | c | ⟨r, hr, rfl⟩
  · exact vw_xe0 (Or.inl c) (br_t rfl (vw_ye0 (Or.inl c) (br_t rfl ⟨rfl, vw_in hR⟩)))
  · exact vw_xe0 (Or.inr c) (br_t rfl (vw_ye0 (Or.inr c) (br_t rfl ⟨rfl, vw_in hR⟩)))
  · have x1 := hX.2 r hr
    have y1 := hY r hr
    refine vw_xe1 hN hr (br_f (by decide) (vw_bl ⟨vp_in_nI (by omega) (by decide), vw_ye1 hN hr (br_f (by decide) ⟨vp_in_nI (by omega) (by decide), ?_, vw_in hR⟩)⟩))
    rw [nI_clamp (by omega), nI_clamp (by omega), x1.1.1, y1.1.1]
    exact congrArg nI (vw_perm (vw_so_nd x1.2.2.1) y1.2.2.1.1 (vw_ps_nz (vw_bg_ps x1.2.2.2.1)) (vw_ps_nz (vw_bg_ps y1.2.2.1)) (fun a b => (hL r hr a b).1))
theorem i_vc_totalRows {k : Nat} {u : SX} {v : SY} (I : i_Rel k u v) (hk : k + 5 ≤ 2564) (v1 : Int32) : wpX_totalRows (fun r => wpY_totalRows (fun r' => r' = r ∧ i_Rel (k + 5) u v) v v1) u v1 := by
  refine vw_el (P := fun u v => wpX_totalRows (fun r => wpY_totalRows (fun r' => r' = r ∧ i_Rel (k + 5) u v) v v1) u v1) ?_ I
  intro tc vm Rx Mx vc pc s f_width f_relSlots f_emptyList f_accRoom f_leastInt f_accCount f_commits f_calcSize a_rowA a_rowB a_rowM a_size a_relKind a_relLeft a_relRight a_relFirst a_relSecond a_pendTable a_pendA a_pendB a_pendN a_accA a_accB a_accM b_rowA b_rowB b_rowN b_size c_A c_B c_N hR
  obtain ⟨BX, DX, BY, WY, hnum, hX, hY, hL, _⟩ := id hR
  have hN := vw_num_N hnum
  have hs := hnum.2.2.2.2.2
  unfold wpX_totalRows wpY_totalRows
  dsimp only
  have c0 : v1 < 0 ∨ nI (tc + vc) ≤ v1 ∨ ∃ j, j < tc + vc ∧ v1 = nI j := pk_ix v1 (by omega)
  rcases c0 with c | c | ⟨r, hr, rfl⟩
  · exact vw_xe0 (Or.inl c) (br_t rfl (vw_ye0 (Or.inl c) (br_t rfl ⟨rfl, vw_in hR⟩)))
  · exact vw_xe0 (Or.inr c) (br_t rfl (vw_ye0 (Or.inr c) (br_t rfl ⟨rfl, vw_in hR⟩)))
  · have x1 := hX.2 r hr
    have y1 := hY r hr
    refine vw_xe1 hN hr (br_f (by decide) (vw_bl ⟨vp_in_nI (by omega) (by decide), nm_r (e' := nI (BX r).length) (by rw [nI_clamp (by omega)]; exact x1.1.1) ?_⟩))
    refine vw_sm0 (by omega) x1.1 (vw_ye1 hN hr (br_f (by decide) ⟨(BY r).length + 1, vw_ytr_loop (by omega) y1.1 ⟨?_, vw_in hR⟩ (BY r) [] _ rfl (by omega)⟩))
    rw [vw_W_eq (fun a b => (hL r hr a b).1)]
    exact congrArg _ (vw_S_congr (fun x _ => Int.one_mul _))
theorem i_vc_rowField {k : Nat} {u : SX} {v : SY} (I : i_Rel k u v) (hk : k + 5 ≤ 2564) (v1 : Int32) (v2 : Int32) (v3 : Int32) : wpX_rowField (fun r => wpY_rowField (fun r' v' => r' = r ∧ i_Rel (k + 5) u v') v v1 v2 v3) u v1 v2 v3 := by
  refine vw_el (P := fun u v => wpX_rowField (fun r => wpY_rowField (fun r' v' => r' = r ∧ i_Rel (k + 5) u v') v v1 v2 v3) u v1 v2 v3) ?_ I
  intro tc vm Rx Mx vc pc s f_width f_relSlots f_emptyList f_accRoom f_leastInt f_accCount f_commits f_calcSize a_rowA a_rowB a_rowM a_size a_relKind a_relLeft a_relRight a_relFirst a_relSecond a_pendTable a_pendA a_pendB a_pendN a_accA a_accB a_accM b_rowA b_rowB b_rowN b_size c_A c_B c_N hR
  obtain ⟨BX, DX, BY, WY, hnum, hX, hY, hL, _⟩ := id hR
  have hN := vw_num_N hnum
  have hs := hnum.2.2.2.2.2
  have hM := hnum.2.2.2.1
  unfold wpX_rowField wpY_rowField
  dsimp only
  have c0 : v1 < 0 ∨ nI (tc + vc) ≤ v1 ∨ ∃ j, j < tc + vc ∧ v1 = nI j := pk_ix v1 (by omega)
  rcases c0 with c | c | ⟨r, hr, rfl⟩
  · exact vw_xe0 (Or.inl c) (br_t rfl (vw_ye0 (Or.inl c) (br_t rfl ⟨rfl, vw_in hR⟩)))
  · exact vw_xe0 (Or.inr c) (br_t rfl (vw_ye0 (Or.inr c) (br_t rfl ⟨rfl, vw_in hR⟩)))
  · have x1 := hX.2 r hr
    have y1 := hY r hr
    have w1 := x1.1.2.1
    have w2 := y1.1.2.1
    refine vw_xe1 hN hr (br_f (by decide) (vw_bl (vw_xf (by omega) x1.1 (fun r1 e1 => vw_ye1 hN hr (br_f (by decide) (vw_yab (sg := 1) rfl (by omega) y1.1 (vw_C_0 c_A c_B c_N) (by omega) (fun c' A' B' N' h' => ?_)))))))
    obtain ⟨C, q1, q2, q3, q4⟩ := vw_C_list h' (fun a b => by have := vw_bg_v y1.2.2.1 a b; omega)
    refine vw_ypk (S := BX r) q1 (by have := h'.1; omega) q3 (by omega) x1.2.2.1 (vw_ps_nz (vw_bg_ps x1.2.2.2.1)) q2 (fun a b => ?_) (fun r2 e2 => ⟨vw_pk_u e1 e2, vw_in hR⟩)
    rw [q4, (hL r hr a b).1]; omega
theorem vw_yde {post : SY → Prop} {tc vc Mx r : Nat} {BX DX BY WY : Nat → List vw_T} {f_tables f_maxViews f_maxRows f_maxMult f_views f_commits f_pendCount f_calcSize : Int32} {a_relKind a_relLeft a_relRight a_relFirst a_relSecond b_size b_rowA b_rowB b_rowN a_pendTable a_pendA a_pendB a_pendN c_A c_B c_N : Nat → Int32} (hM : Mx ≤ 9999) (hN : tc + vc ≤ 11) (hr : r < tc + vc) (hY : vw_Y b_rowA b_rowB b_rowN b_size (tc + vc) Mx BY WY) (hL : vw_L (tc + vc) BX DX BY WY)
    (hp : ∀ c' A' B' N' C, C.length = c' → c' ≤ 144 → vw_nd C → (∀ i x, C[i]? = some x → A' i = x.1 ∧ B' i = x.2.1 ∧ (N' i).toInt = x.2.2) → (∀ a b, vw_v C a b = vw_v (DX r) a b) → post (f_tables, f_maxViews, f_maxRows, f_maxMult, f_views, f_commits, f_pendCount, nI c', a_relKind, a_relLeft, a_relRight, a_relFirst, a_relSecond, b_size, b_rowA, b_rowB, b_rowN, a_pendTable, a_pendA, a_pendB, a_pendN, A', B', N')) :
    wpY_computeDelta post (f_tables, f_maxViews, f_maxRows, f_maxMult, f_views, f_commits, f_pendCount, f_calcSize, a_relKind, a_relLeft, a_relRight, a_relFirst, a_relSecond, b_size, b_rowA, b_rowB, b_rowN, a_pendTable, a_pendA, a_pendB, a_pendN, c_A, c_B, c_N) (nI r) := by
  have y1 := hY r hr
  have w1 := y1.1.2.1
  have w2 := y1.2.1.2.1
  unfold wpY_computeDelta
  dsimp only
  refine vw_yab (sg := 1) rfl (by omega) y1.1 (vw_C_0 c_A c_B c_N) (by omega) (fun c' A' B' N' h' => ?_)
  rw [show (11 : Int32) + nI r = nI (11 + r) from nI_add 11 r]
  refine vw_yab (sg := -1) rfl (by omega) y1.2.1 h' (by omega) (fun c2 A2 B2 N2 h2 => ?_)
  obtain ⟨C, q1, q2, q3, q4⟩ := vw_C_list h2 (fun a b => by
    have g1 := vw_bg_v y1.2.2.1 a b
    have g2 := vw_bg_v y1.2.2.2 a b
    omega)
  refine hp c2 A2 B2 N2 C q1 (by have := h2.1; omega) q2 q3 (fun a b => ?_)
  rw [q4]
  have g1 := hL r hr a b
  omega
theorem i_vc_deltaRows {k : Nat} {u : SX} {v : SY} (I : i_Rel k u v) (hk : k + 5 ≤ 2564) (v1 : Int32) : wpX_deltaRows (fun r => wpY_deltaRows (fun r' v' => r' = r ∧ i_Rel (k + 5) u v') v v1) u v1 := by
  refine vw_el (P := fun u v => wpX_deltaRows (fun r => wpY_deltaRows (fun r' v' => r' = r ∧ i_Rel (k + 5) u v') v v1) u v1) ?_ I
  intro tc vm Rx Mx vc pc s f_width f_relSlots f_emptyList f_accRoom f_leastInt f_accCount f_commits f_calcSize a_rowA a_rowB a_rowM a_size a_relKind a_relLeft a_relRight a_relFirst a_relSecond a_pendTable a_pendA a_pendB a_pendN a_accA a_accB a_accM b_rowA b_rowB b_rowN b_size c_A c_B c_N hR
  obtain ⟨BX, DX, BY, WY, hnum, hX, hY, hL, _⟩ := id hR
  have hN := vw_num_N hnum
  have hs := hnum.2.2.2.2.2
  have hM := hnum.2.2.2.1
  unfold wpX_deltaRows wpY_deltaRows
  dsimp only
  have c0 : v1 < 0 ∨ nI (tc + vc) ≤ v1 ∨ ∃ j, j < tc + vc ∧ v1 = nI j := pk_ix v1 (by omega)
  rcases c0 with c | c | ⟨r, hr, rfl⟩
  · exact vw_xe0 (Or.inl c) (br_t rfl (vw_ye0 (Or.inl c) (br_t rfl ⟨rfl, vw_in hR⟩)))
  · exact vw_xe0 (Or.inr c) (br_t rfl (vw_ye0 (Or.inr c) (br_t rfl ⟨rfl, vw_in hR⟩)))
  · have x1 := hX.2 r hr
    refine vw_xe1 hN hr (br_f (by decide) (vw_dl ⟨vp_in_nI (by omega) (by decide), vw_ye1 hN hr (br_f (by decide) (vw_yde hM hN hr hY hL (fun c' A' B' N' C q1 q0 q2 q3 q4 => vw_ycr q1 q0 q3 ⟨?_, vw_in hR⟩)))⟩))
    rw [nI_clamp (by omega), x1.2.1.1]
    exact congrArg nI (vw_perm (vw_so_nd x1.2.2.2.2.2.1) (List.Pairwise.filter _ q2) x1.2.2.2.2.2.2 (fun x hx => vw_nz_ne hx) (fun a b => (vw_nz_v C a b).trans (q4 a b)))
theorem i_vc_deltaField {k : Nat} {u : SX} {v : SY} (I : i_Rel k u v) (hk : k + 5 ≤ 2564) (v1 : Int32) (v2 : Int32) (v3 : Int32) : wpX_deltaField (fun r => wpY_deltaField (fun r' v' => r' = r ∧ i_Rel (k + 5) u v') v v1 v2 v3) u v1 v2 v3 := by
  refine vw_el (P := fun u v => wpX_deltaField (fun r => wpY_deltaField (fun r' v' => r' = r ∧ i_Rel (k + 5) u v') v v1 v2 v3) u v1 v2 v3) ?_ I
  intro tc vm Rx Mx vc pc s f_width f_relSlots f_emptyList f_accRoom f_leastInt f_accCount f_commits f_calcSize a_rowA a_rowB a_rowM a_size a_relKind a_relLeft a_relRight a_relFirst a_relSecond a_pendTable a_pendA a_pendB a_pendN a_accA a_accB a_accM b_rowA b_rowB b_rowN b_size c_A c_B c_N hR
  obtain ⟨BX, DX, BY, WY, hnum, hX, hY, hL, _⟩ := id hR
  have hN := vw_num_N hnum
  have hs := hnum.2.2.2.2.2
  have hM := hnum.2.2.2.1
  unfold wpX_deltaField wpY_deltaField
  dsimp only
  have c0 : v1 < 0 ∨ nI (tc + vc) ≤ v1 ∨ ∃ j, j < tc + vc ∧ v1 = nI j := pk_ix v1 (by omega)
  rcases c0 with c | c | ⟨r, hr, rfl⟩
  · exact vw_xe0 (Or.inl c) (br_t rfl (vw_ye0 (Or.inl c) (br_t rfl ⟨rfl, vw_in hR⟩)))
  · exact vw_xe0 (Or.inr c) (br_t rfl (vw_ye0 (Or.inr c) (br_t rfl ⟨rfl, vw_in hR⟩)))
  · have x1 := hX.2 r hr
    have w1 := x1.2.1.2.1
    exact vw_xe1 hN hr (br_f (by decide) (vw_dl (vw_xf (by omega) x1.2.1 (fun r1 e1 => vw_ye1 hN hr (br_f (by decide) (vw_yde hM hN hr hY hL (fun c' A' B' N' C q1 q0 q2 q3 q4 => vw_ypk (S := DX r) q1 q0 q3 (by omega) x1.2.2.2.2.2.1 x1.2.2.2.2.2.2 q2 q4 (fun r2 e2 => ⟨vw_pk_u e1 e2, vw_in hR⟩))))))))
theorem i_vc_deltaOf {k : Nat} {u : SX} {v : SY} (I : i_Rel k u v) (hk : k + 5 ≤ 2564) (v1 : Int32) (v2 : Int32) (v3 : Int32) : wpX_deltaOf (fun r => wpY_deltaOf (fun r' => r' = r ∧ i_Rel (k + 5) u v) v v1 v2 v3) u v1 v2 v3 := by
  refine vw_el (P := fun u v => wpX_deltaOf (fun r => wpY_deltaOf (fun r' => r' = r ∧ i_Rel (k + 5) u v) v v1 v2 v3) u v1 v2 v3) ?_ I
  intro tc vm Rx Mx vc pc s f_width f_relSlots f_emptyList f_accRoom f_leastInt f_accCount f_commits f_calcSize a_rowA a_rowB a_rowM a_size a_relKind a_relLeft a_relRight a_relFirst a_relSecond a_pendTable a_pendA a_pendB a_pendN a_accA a_accB a_accM b_rowA b_rowB b_rowN b_size c_A c_B c_N hR
  obtain ⟨BX, DX, BY, WY, hnum, hX, hY, hL, _⟩ := id hR
  have hN := vw_num_N hnum
  have hs := hnum.2.2.2.2.2
  unfold wpX_deltaOf wpY_deltaOf
  dsimp only
  have c0 : v1 < 0 ∨ nI (tc + vc) ≤ v1 ∨ ∃ j, j < tc + vc ∧ v1 = nI j := pk_ix v1 (by omega)
  rcases c0 with c | c | ⟨r, hr, rfl⟩
  · exact vw_xe0 (Or.inl c) (br_t rfl (vw_ye0 (Or.inl c) (br_t rfl ⟨rfl, vw_in hR⟩)))
  · exact vw_xe0 (Or.inr c) (br_t rfl (vw_ye0 (Or.inr c) (br_t rfl ⟨rfl, vw_in hR⟩)))
  · have x1 := hX.2 r hr
    have y1 := hY r hr
    rw [show (11 : Int32) + nI r = nI (11 + r) from nI_add 11 r]
    refine vw_xe1 hN hr (br_f (by decide) (vw_dl (vw_vi (by omega) x1.2.1 x1.2.2.2.2.2.1 (fun r1 e1 => vw_ye1 hN hr (br_f (by decide) (vw_yni (by omega) y1.1 y1.2.2.1.1 (fun r2 e2 => vw_yni (by omega) y1.2.1 y1.2.2.2.1 (fun r3 e3 => ⟨?_, vw_in hR⟩))))))))
    have g1 := vw_bg_v y1.2.2.1 v2 v3
    have g2 := vw_bg_v y1.2.2.2 v2 v3
    have g3 := hL r hr v2 v3
    exact Int32.toInt_inj.mp (by rw [vw_i32sub (by omega) (by omega), e1, e2, e3]; omega)
end
section
theorem vw_neg {Mx : Nat} (h : Mx ≤ 9999) : (-nI Mx).toInt = -(Mx : Int) := by
  rw [Int32.toInt_neg, nI_toInt (by omega)]
  exact Int.bmod_eq_of_le (by omega) (by omega)
theorem vw_rng {x : Int32} {Mx : Nat} (h : Mx ≤ 9999) (h1 : ¬ x < -nI Mx) (h2 : x ≤ nI Mx) : -(Mx : Int) ≤ x.toInt ∧ x.toInt ≤ (Mx : Int) := by
  rw [Int32.lt_iff_toInt_lt, vw_neg h] at h1
  rw [Int32.le_iff_toInt_le, nI_toInt (by omega)] at h2
  omega
theorem vw_pd_add {T A B N : Nat → Int32} {pc tc Mx t : Nat} {a b n : Int32} (h : vw_pd T A B N pc tc Mx) (ht : t < tc) (hpc : pc < 12) (hn : ∀ e, e < pc → ¬ vw_mt T A B (nI t) a b e) (hb : -(Mx : Int) ≤ n.toInt ∧ n.toInt ≤ (Mx : Int)) :
    vw_pd (upd T pc (nI t)) (upd A pc a) (upd B pc b) (upd N pc n) (pc + 1) tc Mx := by
  obtain ⟨h1, h2, h3, h4⟩ := h
  have old : ∀ e, e < pc → upd T pc (nI t) e = T e ∧ upd A pc a e = A e ∧ upd B pc b e = B e ∧ upd N pc n e = N e := fun e he => ⟨pk_un (by omega), pk_un (by omega), pk_un (by omega), pk_un (by omega)⟩
  refine ⟨by omega, fun e he => ?_, fun e he => ?_, fun e e' he he' hm => ?_⟩
  · rcases Nat.lt_or_ge e pc with c | c
    · rw [(old e c).1]; exact h2 e c
    · have ee : e = pc := by omega
      subst ee
      exact ⟨t, ht, pk_us⟩
  · rcases Nat.lt_or_ge e pc with c | c
    · rw [(old e c).2.2.2]; exact h3 e c
    · have ee : e = pc := by omega
      subst ee
      rw [pk_us]; exact hb
  · unfold vw_mt at hm
    rcases Nat.lt_or_ge e pc with c | c
    · rcases Nat.lt_or_ge e' pc with c' | c'
      · rw [(old e c).1, (old e c).2.1, (old e c).2.2.1, (old e' c').1, (old e' c').2.1, (old e' c').2.2.1] at hm
        exact h4 e e' c c' hm
      · have ee : e' = pc := by omega
        subst ee
        rw [(old e c).1, (old e c).2.1, (old e c).2.2.1, pk_us, pk_us, pk_us] at hm
        exact absurd hm (hn e c)
    · have ee : e = pc := by omega
      subst ee
      rcases Nat.lt_or_ge e' e with c' | c'
      · rw [(old e' c').1, (old e' c').2.1, (old e' c').2.2.1, pk_us, pk_us, pk_us] at hm
        exact absurd ⟨hm.1.symm, hm.2.1.symm, hm.2.2.symm⟩ (hn e' c')
      · omega
theorem vw_pd_set {T A B N : Nat → Int32} {pc tc Mx e0 : Nat} {n : Int32} (h : vw_pd T A B N pc tc Mx) (hb : -(Mx : Int) ≤ n.toInt ∧ n.toInt ≤ (Mx : Int)) : vw_pd T A B (upd N e0 n) pc tc Mx := by
  obtain ⟨h1, h2, h3, h4⟩ := h
  refine ⟨h1, h2, fun e he => ?_, h4⟩
  by_cases c : e = e0
  · rw [c, pk_us]; exact hb
  · rw [pk_un c]; exact h3 e he
theorem vw_pd_del {T A B N N1 : Nat → Int32} {w tc Mx e0 : Nat} (h : vw_pd T A B N (w + 1) tc Mx) (h0 : e0 < w + 1) (hN : ∀ j, j ≠ e0 → N1 j = N j) :
    vw_pd (upd T e0 (T w)) (upd A e0 (A w)) (upd B e0 (B w)) (upd N1 e0 (N1 w)) w tc Mx := by
  obtain ⟨h1, h2, h3, h4⟩ := h
  have key : ∀ j, j < w → ∃ i, i < w + 1 ∧ upd T e0 (T w) j = T i ∧ upd A e0 (A w) j = A i ∧ upd B e0 (B w) j = B i ∧ upd N1 e0 (N1 w) j = N i ∧ (j = e0 → i = w) ∧ (j ≠ e0 → i = j) := by
    intro j hj
    by_cases c : j = e0
    · subst c
      exact ⟨w, by omega, pk_us, pk_us, pk_us, by rw [pk_us]; exact hN w (by omega), fun _ => rfl, fun z => absurd rfl z⟩
    · exact ⟨j, by omega, pk_un c, pk_un c, pk_un c, by rw [pk_un c]; exact hN j c, fun z => absurd z c, fun _ => rfl⟩
  refine ⟨by omega, fun e he => ?_, fun e he => ?_, fun e e' he he' hm => ?_⟩
  · obtain ⟨i, hi, k1, _⟩ := key e he
    rw [k1]; exact h2 i hi
  · obtain ⟨i, hi, _, _, _, k4, _⟩ := key e he
    rw [k4]; exact h3 i hi
  · obtain ⟨i, hi, k1, k2, k3, _, k5, k6⟩ := key e he
    obtain ⟨i', hi', l1, l2, l3, _, l5, l6⟩ := key e' he'
    unfold vw_mt at hm
    rw [k1, k2, k3, l1, l2, l3] at hm
    have ei := h4 i i' hi hi' hm
    by_cases c : e = e0
    · by_cases c' : e' = e0
      · omega
      · have := k5 c
        have := l6 c'
        omega
    · have q1 := k6 c
      by_cases c' : e' = e0
      · have := l5 c'
        omega
      · have := l6 c'
        omega
section
variable {f_width f_relSlots f_emptyList f_accRoom f_leastInt f_tableCount f_maxViews f_maxRows f_maxMult f_side f_viewCount f_pendCount f_accCount f_commits : Int32} {a_rowA a_rowB a_rowM a_size a_relKind a_relLeft a_relRight a_relFirst a_relSecond a_pendTable a_pendA a_pendB a_pendN a_accA a_accB : Nat → Int32} {a_accM : Nat → Int64}
theorem vw_xrm {post : SX → Prop} {w e : Nat} (hw : w < 12) (he : e < 12) (hp : post (f_width, f_relSlots, f_emptyList, f_accRoom, f_leastInt, f_tableCount, f_maxViews, f_maxRows, f_maxMult, f_side, f_viewCount, nI w, f_accCount, f_commits, a_rowA, a_rowB, a_rowM, a_size, a_relKind, a_relLeft, a_relRight, a_relFirst, a_relSecond, upd a_pendTable e (a_pendTable w), upd a_pendA e (a_pendA w), upd a_pendB e (a_pendB w), upd a_pendN e (a_pendN w), a_accA, a_accB, a_accM)) : wpX_removePending post (f_width, f_relSlots, f_emptyList, f_accRoom, f_leastInt, f_tableCount, f_maxViews, f_maxRows, f_maxMult, f_side, f_viewCount, nI (w + 1), f_accCount, f_commits, a_rowA, a_rowB, a_rowM, a_size, a_relKind, a_relLeft, a_relRight, a_relFirst, a_relSecond, a_pendTable, a_pendA, a_pendB, a_pendN, a_accA, a_accB, a_accM) (nI e) := by
  have i1 : vp_in (nI w) 12 := vp_in_nI hw (by decide)
  have i2 : vp_in (nI e) 12 := vp_in_nI he (by decide)
  refine nm_r (e' := nI w) (nI_pred w) ?_
  rw [nI_clamp (n := w) (by omega), nI_clamp (n := e) (by omega)]
  exact ⟨i1, i2, nm_e ⟨i1, i2, nm_e ⟨i1, i2, nm_e ⟨i1, i2, nm_e hp⟩⟩⟩⟩
end
section
variable {f_tables f_maxViews f_maxRows f_maxMult f_views f_commits f_pendCount f_calcSize : Int32} {a_kinds a_lefts a_rights a_thirds a_fourths a_size a_rowA a_rowB a_rowN a_pendT a_pendA a_pendB a_pendN a_calcA a_calcB a_calcN : Nat → Int32}
theorem vw_ysn {post : Int32 → SY → Prop} {tc Mx pc : Nat} {p0 p1 p2 p3 : Int32} (h12 : pc ≤ 12) (c1 : ¬ p0 < 0) (c2 : p0 < nI tc) (c3 : ¬ p3 = 0) (c4 : ¬ p3 < -nI Mx) (c5 : p3 ≤ nI Mx) (hn : ∀ e, e < pc → ¬ vw_mt a_pendT a_pendA a_pendB p0 p1 p2 e)
    (hp0 : pc < 12 → post 0 (nI tc, f_maxViews, f_maxRows, nI Mx, f_views, f_commits, nI (pc + 1), f_calcSize, a_kinds, a_lefts, a_rights, a_thirds, a_fourths, a_size, a_rowA, a_rowB, a_rowN, upd a_pendT pc p0, upd a_pendA pc p1, upd a_pendB pc p2, upd a_pendN pc p3, a_calcA, a_calcB, a_calcN)) (hp4 : ¬ pc < 12 → post (-4) (nI tc, f_maxViews, f_maxRows, nI Mx, f_views, f_commits, nI pc, f_calcSize, a_kinds, a_lefts, a_rights, a_thirds, a_fourths, a_size, a_rowA, a_rowB, a_rowN, a_pendT, a_pendA, a_pendB, a_pendN, a_calcA, a_calcB, a_calcN)) : wpY_stage post (nI tc, f_maxViews, f_maxRows, nI Mx, f_views, f_commits, nI pc, f_calcSize, a_kinds, a_lefts, a_rights, a_thirds, a_fourths, a_size, a_rowA, a_rowB, a_rowN, a_pendT, a_pendA, a_pendB, a_pendN, a_calcA, a_calcB, a_calcN) p0 p1 p2 p3 := by
  refine br_f c1 (br_t c2 (br_f c3 (br_f c4 (br_t c5 ?_))))
  unfold wpY_pendingOf
  dsimp only
  refine vw_yfp h12 (fun _ => br_f (by decide) (nm_r (e' := p3) (Int32.zero_add _) (br_f c4 (br_t c5 (vw_yfp h12 (fun _ => br_f (by decide) ?_) (fun e he hm => absurd hm (hn e he))))))) (fun e he hm => absurd hm (hn e he))
  by_cases c6 : pc < 12
  · have hi : vp_in (nI pc) 12 := vp_in_nI c6 (by decide)
    refine br_t (nI_lt (b := 12) c6 (by decide)) (nm_r (nI_1 _) ?_)
    rw [nI_clamp (n := pc) (by omega)]
    refine ⟨hi, nm_e ⟨hi, nm_e ⟨hi, nm_e (And.intro hi (nm_r (e' := upd a_pendN pc p3) (by rw [nI_clamp (by omega)]) (br_f c3 (hp0 c6))))⟩⟩⟩
  · exact br_f (nI_nlt (b := 12) (by omega) (by omega)) (hp4 c6)
theorem vw_ysf {post : Int32 → SY → Prop} {tc Mx pc e : Nat} {p0 p1 p2 p3 : Int32} (h12 : pc ≤ 12) (c1 : ¬ p0 < 0) (c2 : p0 < nI tc) (c3 : ¬ p3 = 0) (c4 : ¬ p3 < -nI Mx) (c5 : p3 ≤ nI Mx) (he : e < pc) (hm : vw_mt a_pendT a_pendA a_pendB p0 p1 p2 e) (hu : ∀ e', e' < pc → vw_mt a_pendT a_pendA a_pendB p0 p1 p2 e' → e' = e)
    (hp3 : a_pendN e + p3 < -nI Mx ∨ ¬ a_pendN e + p3 ≤ nI Mx → post (-3) (nI tc, f_maxViews, f_maxRows, nI Mx, f_views, f_commits, nI pc, f_calcSize, a_kinds, a_lefts, a_rights, a_thirds, a_fourths, a_size, a_rowA, a_rowB, a_rowN, a_pendT, a_pendA, a_pendB, a_pendN, a_calcA, a_calcB, a_calcN)) (hp0 : ¬ a_pendN e + p3 < -nI Mx → a_pendN e + p3 ≤ nI Mx → ¬ a_pendN e + p3 = 0 → post 0 (nI tc, f_maxViews, f_maxRows, nI Mx, f_views, f_commits, nI pc, f_calcSize, a_kinds, a_lefts, a_rights, a_thirds, a_fourths, a_size, a_rowA, a_rowB, a_rowN, a_pendT, a_pendA, a_pendB, upd a_pendN e (a_pendN e + p3), a_calcA, a_calcB, a_calcN))
    (hp1 : a_pendN e + p3 = 0 → ∀ w, pc = w + 1 → post 0 (nI tc, f_maxViews, f_maxRows, nI Mx, f_views, f_commits, nI w, f_calcSize, a_kinds, a_lefts, a_rights, a_thirds, a_fourths, a_size, a_rowA, a_rowB, a_rowN, upd a_pendT e (a_pendT w), upd a_pendA e (a_pendA w), upd a_pendB e (a_pendB w), upd (upd a_pendN e (a_pendN e + p3)) e (upd a_pendN e (a_pendN e + p3) w), a_calcA, a_calcB, a_calcN)) : wpY_stage post (nI tc, f_maxViews, f_maxRows, nI Mx, f_views, f_commits, nI pc, f_calcSize, a_kinds, a_lefts, a_rights, a_thirds, a_fourths, a_size, a_rowA, a_rowB, a_rowN, a_pendT, a_pendA, a_pendB, a_pendN, a_calcA, a_calcB, a_calcN) p0 p1 p2 p3 := by
  have hi : vp_in (nI e) 12 := vp_in_nI (by omega) (by decide)
  refine br_f c1 (br_t c2 (br_f c3 (br_f c4 (br_t c5 ?_))))
  unfold wpY_pendingOf
  dsimp only
  refine vw_yfp h12 (fun hn => absurd hm (hn e he)) (fun e2 he2 hm2 => ?_)
  have e2e := hu e2 he2 hm2
  subst e2e
  refine br_t (nI_pos' (by omega)) ⟨hi, nm_r (e' := a_pendN e2 + p3) (by rw [nI_clamp (by omega)]) (br_c (fun c6 => hp3 (Or.inl c6)) (fun c6 => br_c (fun c7 => vw_yfp h12 (fun hn => absurd hm (hn e2 he)) (fun e3 he3 hm3 => ?_)) (fun c7 => hp3 (Or.inr c7))))⟩
  have e3e := hu e3 he3 hm3
  subst e3e
  refine br_t (nI_pos' (by omega)) (And.intro hi (nm_r (e' := upd a_pendN e3 (a_pendN e3 + p3)) (by rw [nI_clamp (by omega)]) (br_c (fun c8 => ?_) (fun c8 => hp0 c6 c7 c8))))
  obtain ⟨w, rfl⟩ : ∃ w, pc = w + 1 := ⟨pc - 1, by omega⟩
  have i1 : vp_in (nI w) 12 := vp_in_nI (by omega) (by decide)
  refine nm_r (e' := nI w) (nI_pred w) ?_
  rw [nI_clamp (n := w) (by omega), nI_clamp (n := e3) (by omega)]
  exact ⟨i1, hi, nm_e ⟨i1, hi, nm_e ⟨i1, hi, nm_e ⟨i1, hi, nm_e (hp1 c8 w rfl)⟩⟩⟩⟩
end
theorem vw_R_pd {tc vm Rx Mx vc pc s : Nat} {a_rowA a_rowB a_rowM a_size a_relKind a_relLeft a_relRight a_relFirst a_relSecond a_pendTable a_pendA a_pendB a_pendN b_rowA b_rowB b_rowN b_size : Nat → Int32} {T A B N : Nat → Int32} {pc' : Nat} (h : vw_R tc vm Rx Mx vc pc s a_rowA a_rowB a_rowM a_size a_relKind a_relLeft a_relRight a_relFirst a_relSecond a_pendTable a_pendA a_pendB a_pendN b_rowA b_rowB b_rowN b_size) (pd : vw_pd T A B N pc' tc Mx) : vw_R tc vm Rx Mx vc pc' s a_rowA a_rowB a_rowM a_size a_relKind a_relLeft a_relRight a_relFirst a_relSecond T A B N b_rowA b_rowB b_rowN b_size := by
  obtain ⟨BX, DX, BY, WY, g1, g2, g3, g4, g5, g6, _⟩ := h
  exact ⟨BX, DX, BY, WY, g1, g2, g3, g4, g5, g6, pd⟩
theorem i_vc_abort {k : Nat} {u : SX} {v : SY} (I : i_Rel k u v) (hk : k + 5 ≤ 2564) : wpX_abort (fun r u' => wpY_abort (fun r' v' => r' = r ∧ i_Rel (k + 5) u' v') v) u := by
  refine vw_el (P := fun u v => wpX_abort (fun r u' => wpY_abort (fun r' v' => r' = r ∧ i_Rel (k + 5) u' v') v) u) ?_ I
  intro tc vm Rx Mx vc pc s f_width f_relSlots f_emptyList f_accRoom f_leastInt f_accCount f_commits f_calcSize a_rowA a_rowB a_rowM a_size a_relKind a_relLeft a_relRight a_relFirst a_relSecond a_pendTable a_pendA a_pendB a_pendN a_accA a_accB a_accM b_rowA b_rowB b_rowN b_size c_A c_B c_N hR
  have pd : vw_pd a_pendTable a_pendA a_pendB a_pendN 0 tc Mx := ⟨by omega, fun e he => absurd he (by omega), fun e he => absurd he (by omega), fun e e' he => absurd he (by omega)⟩
  exact ⟨rfl, vw_in (vw_R_pd hR pd)⟩
theorem i_vc_dropLast {k : Nat} {u : SX} {v : SY} (I : i_Rel k u v) (hk : k + 5 ≤ 2564) : wpX_dropLast (fun r u' => wpY_dropLast (fun r' v' => r' = r ∧ i_Rel (k + 5) u' v') v) u := by
  refine vw_el (P := fun u v => wpX_dropLast (fun r u' => wpY_dropLast (fun r' v' => r' = r ∧ i_Rel (k + 5) u' v') v) u) ?_ I
  intro tc vm Rx Mx vc pc s f_width f_relSlots f_emptyList f_accRoom f_leastInt f_accCount f_commits f_calcSize a_rowA a_rowB a_rowM a_size a_relKind a_relLeft a_relRight a_relFirst a_relSecond a_pendTable a_pendA a_pendB a_pendN a_accA a_accB a_accM b_rowA b_rowB b_rowN b_size c_A c_B c_N hR
  obtain ⟨BX, DX, BY, WY, g1, g2, g3, g4, g5, g6, g7⟩ := id hR
  have hN := vw_num_N g1
  cases vc with
  | zero => exact br_t rfl (br_t rfl ⟨rfl, vw_in hR⟩)
  | succ w =>
    have ne : ¬ nI (w + 1) = 0 := nI_ne0 (by omega) (by omega)
    refine br_f ne (nm_r (nI_pred w) (br_f ne (nm_r (nI_pred w) ⟨rfl, vw_in ⟨BX, DX, BY, WY, ?_, ⟨g2.1, fun r hr => g2.2 r (by omega)⟩, fun r hr => g3 r (by omega), fun r hr => g4 r (by omega), fun r h1 hr => g5 r h1 (by omega), ⟨g6.1, fun r h1 hr => g6.2 r h1 (by omega)⟩, g7⟩⟩)))
    obtain ⟨n1, n2, n3, n4, n5, n6⟩ := g1
    exact ⟨n1, n2, n3, n4, by omega, n6⟩
theorem i_vc_stage {k : Nat} {u : SX} {v : SY} (I : i_Rel k u v) (hk : k + 5 ≤ 2564) (v1 : Int32) (v2 : Int32) (v3 : Int32) (v4 : Int32) : wpX_stage (fun r u' => wpY_stage (fun r' v' => r' = r ∧ i_Rel (k + 5) u' v') v v1 v2 v3 v4) u v1 v2 v3 v4 := by
  refine vw_el (P := fun u v => wpX_stage (fun r u' => wpY_stage (fun r' v' => r' = r ∧ i_Rel (k + 5) u' v') v v1 v2 v3 v4) u v1 v2 v3 v4) ?_ I
  intro tc vm Rx Mx vc pc s f_width f_relSlots f_emptyList f_accRoom f_leastInt f_accCount f_commits f_calcSize a_rowA a_rowB a_rowM a_size a_relKind a_relLeft a_relRight a_relFirst a_relSecond a_pendTable a_pendA a_pendB a_pendN a_accA a_accB a_accM b_rowA b_rowB b_rowN b_size c_A c_B c_N hR
  obtain ⟨hnum, pd⟩ : vw_num tc vm Rx Mx vc s ∧ vw_pd a_pendTable a_pendA a_pendB a_pendN pc tc Mx := by obtain ⟨_, _, _, _, h1, _, _, _, _, _, pd⟩ := hR; exact ⟨h1, pd⟩
  have h12 := pd.1
  have hM := hnum.2.2.2.1
  have htc := hnum.1
  refine br_c (fun c1 => br_t c1 ⟨rfl, vw_in hR⟩) (fun c1 => br_c (fun c2 => br_c (fun c3 => br_f c1 (br_t c2 (br_t c3 ⟨rfl, vw_in hR⟩))) (fun c3 => br_c (fun c4 => br_f c1 (br_t c2 (br_f c3 (br_t c4 ⟨rfl, vw_in hR⟩)))) (fun c4 => br_c (fun c5 => ?_) (fun c5 => br_f c1 (br_t c2 (br_f c3 (br_f c4 (br_f c5 ⟨rfl, vw_in hR⟩)))))))) (fun c2 => br_f c1 (br_f c2 ⟨rfl, vw_in hR⟩)))
  obtain ⟨t, ht, rfl⟩ := nI_of c1
  have ht2 : t < tc := (nI_ltI ht (by omega)).mp c2
  have b4 := vw_rng hM c4 c5
  refine vw_xfp h12 (fun hn => br_t (by decide) ?_) (fun e he hm => ?_)
  · refine br_f c4 (br_t c5 (br_f (by decide) (br_c (fun c6 => ?_) (fun c6 => ?_))))
    · have c7 : pc < 12 := (nI_ltI (b := 12) (by omega) (by omega)).mp c6
      have hi : vp_in (nI pc) 12 := vp_in_nI c7 (by decide)
      rw [nI_clamp (n := pc) (by omega)]
      refine ⟨hi, nm_e ⟨hi, nm_e ⟨hi, nm_e (nm_r (nI_1 _) (And.intro hi (nm_r (e' := upd a_pendN pc v4) (by rw [nI_clamp (by omega)]) (br_f c3 ?_))))⟩⟩⟩
      exact vw_ysn h12 c1 c2 c3 c4 c5 hn (fun _ => ⟨rfl, vw_in (vw_R_pd hR (vw_pd_add pd ht2 c7 hn b4))⟩) (fun z => absurd c7 z)
    · exact vw_ysn h12 c1 c2 c3 c4 c5 hn (fun z => absurd (nI_lt (b := 12) z (by decide)) c6) (fun _ => ⟨rfl, vw_in hR⟩)
  · have hi : vp_in (nI e) 12 := vp_in_nI (by omega) (by decide)
    have hu : ∀ e', e' < pc → vw_mt a_pendTable a_pendA a_pendB (nI t) v2 v3 e' → e' = e := fun e' h1 h2 => pd.2.2.2 e' e h1 he (by obtain ⟨m1, m2, m3⟩ := hm; rw [m1, m2, m3]; exact h2)
    refine br_f (nI_pos (by omega)) ⟨hi, nm_r (e' := a_pendN e + v4) (by rw [nI_clamp (by omega)]) (br_c (fun c6 => ?_) (fun c6 => br_c (fun c7 => br_t (nI_pos' (by omega)) (And.intro hi (nm_r (e' := upd a_pendN e (a_pendN e + v4)) (by rw [nI_clamp (by omega)]) (br_c (fun c8 => ?_) (fun c8 => ?_))))) (fun c7 => ?_)))⟩
    · exact vw_ysf h12 c1 c2 c3 c4 c5 he hm hu (fun _ => ⟨rfl, vw_in hR⟩) (fun z => absurd c6 z) (fun z => by
        rw [z, Int32.lt_iff_toInt_lt, vw_neg hM] at c6
        exact absurd (show (0 : Int) < -(Mx : Int) from c6) (by omega))
    · obtain ⟨w, rfl⟩ : ∃ w, pc = w + 1 := ⟨pc - 1, by omega⟩
      refine vw_xrm (by omega) (by omega) (vw_ysf h12 c1 c2 c3 c4 c5 he hm hu (fun z => absurd z (fun z => z.elim c6 (fun q => q c7))) (fun _ _ z => absurd c8 z) (fun _ w2 ew => ?_))
      have ew2 : w2 = w := by omega
      subst ew2
      exact ⟨rfl, vw_in (vw_R_pd hR (vw_pd_del pd he (fun j hj => pk_un hj)))⟩
    · exact vw_ysf h12 c1 c2 c3 c4 c5 he hm hu (fun z => absurd z (fun z => z.elim c6 (fun q => q c7))) (fun _ _ _ => ⟨rfl, vw_in (vw_R_pd hR (vw_pd_set pd (vw_rng hM c6 c7)))⟩) (fun z => absurd z c8)
    · exact vw_ysf h12 c1 c2 c3 c4 c5 he hm hu (fun _ => ⟨rfl, vw_in hR⟩) (fun _ z => absurd z c7) (fun z => by
        rw [z, Int32.le_iff_toInt_le, nI_toInt (by omega)] at c7
        exact absurd (show (0 : Int) ≤ (Mx : Int) from by omega) c7)
end
section
theorem vw_H_sz {w l : Nat} {A B M sz sz' : Nat → Int32} {L : List vw_T} (h : vw_H w A B M sz l L) (e : sz' l = sz l) : vw_H w A B M sz' l L := ⟨e.trans h.1, h.2.1, h.2.2⟩
theorem vw_H_nil {w l : Nat} {A B M sz : Nat → Int32} (e : sz l = 0) : vw_H w A B M sz l [] := ⟨e, by simp, fun i x hx => by simp at hx⟩
def vw_up (F : Nat → List vw_T) (n : Nat) (Q : List vw_T) : Nat → List vw_T := fun r => if r = n then Q else F r
theorem vw_up_s {F : Nat → List vw_T} {n : Nat} {Q : List vw_T} : vw_up F n Q n = Q := if_pos rfl
theorem vw_up_n {F : Nat → List vw_T} {n r : Nat} {Q : List vw_T} (h : r ≠ n) : vw_up F n Q r = F r := if_neg h
theorem vw_X_fr {A B M sz A' B' M' sz' : Nat → Int32} {s N Rx Mx o : Nat} {BX DX : Nat → List vw_T} (h : vw_X A B M sz s N Rx Mx BX DX) (h44 : o ≠ 44) (ho : ∀ r, r < N → s * 22 + r ≠ o ∧ s * 22 + 11 + r ≠ o) (hA : vw_fr 24 o A A') (hB : vw_fr 24 o B B') (hM : vw_fr 24 o M M') (hs : ∀ j, j ≠ o → sz' j = sz j) : vw_X A' B' M' sz' s N Rx Mx BX DX := by
  refine ⟨vw_H_fr h.1 (fun z => h44 z.symm) hA hB hM (hs _ (fun z => h44 z.symm)), fun r hr => ?_⟩
  obtain ⟨g1, g2, g3⟩ := h.2 r hr
  have hn := ho r hr
  exact ⟨vw_H_fr g1 hn.1 hA hB hM (hs _ hn.1), vw_H_fr g2 hn.2 hA hB hM (hs _ hn.2), g3⟩
theorem vw_X_s {A B M sz : Nat → Int32} {s N Rx Mx : Nat} {BX DX : Nat → List vw_T} {Q D : List vw_T} (h : vw_X A B M sz s N Rx Mx BX DX) (h1 : vw_X1 A B M sz s N Rx Mx Q D) : vw_X A B M sz s (N + 1) Rx Mx (vw_up BX N Q) (vw_up DX N D) := by
  refine ⟨h.1, fun r hr => ?_⟩
  by_cases c : r = N
  · rw [c, vw_up_s, vw_up_s]; exact h1
  · rw [vw_up_n c, vw_up_n c]; exact h.2 r (by omega)
section
variable {f_width f_relSlots f_emptyList f_accRoom f_leastInt f_tableCount f_maxViews f_maxRows f_maxMult f_side f_viewCount f_pendCount f_accCount f_commits : Int32} {a_rowA a_rowB a_rowM a_size a_relKind a_relLeft a_relRight a_relFirst a_relSecond a_pendTable a_pendA a_pendB a_pendN a_accA a_accB : Nat → Int32} {a_accM : Nat → Int64}
theorem vw_x103 {post : Int32 → SX → Prop} {N Rx Mx vc s l lr : Nat} {BX DX : Nat → List vw_T} {k t f : Int32} {R : List vw_T} (hs : s ≤ 1) (hRx : Rx ≤ 12) (hMx : Mx ≤ 9999) (hN : N < 11) (hX : vw_X a_rowA a_rowB a_rowM a_size s N Rx Mx BX DX) (HO : vw_H 24 a_rowA a_rowB a_rowM a_size (s * 22 + N) [])
    (ek : a_relKind N = k) (et : a_relFirst N = t) (ef : a_relSecond N = f) (hk : k = 1 ∨ k = 2 ∨ k = 3 ∨ k = 4 ∨ k = 5 ∨ k = 6 ∨ k = 7 ∨ k = 8 ∨ k = 9) (hl : l < N) (hlr : lr < 45) (HR : vw_H 24 a_rowA a_rowB a_rowM a_size lr R) (soR : vw_so R) (bR : vw_bg R Mx)
    (hok : ∀ A B M sz ac aA aB aM Q, vw_X A B M sz s (N + 1) Rx Mx (vw_up BX N Q) (vw_up DX N []) → (∀ a b, vw_v Q a b = vw_F k t f (BX l) R a b) → vw_fits (fun a b => vw_F k t f (BX l) R a b) Rx Mx → post (nI N) (f_width, f_relSlots, f_emptyList, f_accRoom, f_leastInt, f_tableCount, f_maxViews, nI Rx, nI Mx, nI s, nI (vc + 1), f_pendCount, ac, f_commits, A, B, M, sz, a_relKind, a_relLeft, a_relRight, a_relFirst, a_relSecond, a_pendTable, a_pendA, a_pendB, a_pendN, aA, aB, aM))
    (hno : ∀ A B M sz ac aA aB aM, vw_X A B M sz s N Rx Mx BX DX → ¬ vw_fits (fun a b => vw_F k t f (BX l) R a b) Rx Mx → post (-5) (f_width, f_relSlots, f_emptyList, f_accRoom, f_leastInt, f_tableCount, f_maxViews, nI Rx, nI Mx, nI s, nI vc, f_pendCount, ac, f_commits, A, B, M, sz, a_relKind, a_relLeft, a_relRight, a_relFirst, a_relSecond, a_pendTable, a_pendA, a_pendB, a_pendN, aA, aB, aM)) :
    wX_addView_103 post (nI N) (nI (s * 22 + N)) (nI (s * 22 + l)) (nI lr) f_width f_relSlots f_emptyList f_accRoom f_leastInt f_tableCount f_maxViews (nI Rx) (nI Mx) (nI s) (nI vc) f_pendCount f_accCount f_commits a_rowA a_rowB a_rowM a_size a_relKind a_relLeft a_relRight a_relFirst a_relSecond a_pendTable a_pendA a_pendB a_pendN a_accA a_accB a_accM := by
  have xl := hX.2 l hl
  have own44 : s * 22 + N ≠ 44 := by omega
  have ownr : ∀ r, r < N → s * 22 + r ≠ s * 22 + N ∧ s * 22 + 11 + r ≠ s * 22 + N := fun r hr => ⟨by omega, by omega⟩
  unfold wX_addView_103
  refine vw_der (E := fun _ _ => 0) (loL := 44) (c := 0) (oR := []) (Mx := Mx) (O := []) (oL := []) hN hs hMx ek et ef hk (by omega) (by omega) (by omega) hlr hlr xl.1 xl.1 hX.1 HR HR HO hX.1 xl.2.2.1 xl.2.2.1 soR soR List.Pairwise.nil xl.2.2.2.1 (vw_bg_nil Mx) bR (vw_bg_nil Mx) (fun a b => by rw [vw_v_nil]; omega) (fun a b => by rw [vw_v_nil]; omega) (fun a b => by rw [vw_v_nil, vw_F_nil]) (vw_A_0 _ _ _) (fun c' A' B' M' h' => ?_)
  have bd : ∀ a b, 0 ≤ vw_F k t f (BX l) R a b ∧ vw_F k t f (BX l) R a b < 2147483648 := vw_F_bd hMx xl.2.2.2.1 bR
  obtain ⟨C, q1, q2, q3, q4⟩ := vw_A_list (vw_A_eq h' (Nat.le_refl _) (E' := fun a b => vw_F k t f (BX l) R a b) (fun a b => by rw [vw_F_nil]; omega)) (fun a b => by have := bd a b; omega)
  refine vw_set (O := []) (C := C) (vn := fun a b => vw_F k t f (BX l) R a b) (by decide) (by omega) (fun z => own44 z.symm) hRx hMx (by simp) q1 h'.1 q3 q2 List.Pairwise.nil hX.1 bd (fun a b => by rw [vw_v_nil, q4]; omega) (fun A B M Q fA fB fM HQ sQ bQ lQ vQ => ?_) (fun A B M fA fB fM nf => ?_)
  · refine br_f (by decide) (vw_dl ⟨vp_in_nI (by omega) (by decide), nm_r (e' := upd (upd a_size (s * 22 + N) (nI Q.length)) (s * 22 + 11 + N) 0) (by rw [nI_clamp (by omega)]) (nm_r (nI_1 _) (hok A B M _ _ _ _ _ Q ?_ vQ ?_))⟩)
    · have hX' : vw_X A B M (upd (upd a_size (s * 22 + N) (nI Q.length)) (s * 22 + 11 + N) 0) s N Rx Mx BX DX := by
        have g1 := vw_X_fr (sz' := upd a_size (s * 22 + N) (nI Q.length)) hX own44 ownr fA fB fM (fun j hj => pk_un hj)
        exact vw_X_fr (o := s * 22 + 11 + N) g1 (by omega) (fun r hr => ⟨by omega, by omega⟩) vw_fr_rf vw_fr_rf vw_fr_rf (fun j hj => pk_un hj)
      exact vw_X_s hX' ⟨vw_H_sz HQ (pk_un (by omega)), vw_H_nil pk_us, sQ, bQ, lQ, List.Pairwise.nil, fun x hx => absurd hx List.not_mem_nil⟩
    · exact vw_fits_of vQ (fun a b => by rw [← vQ]; exact (vw_bg_v bQ a b).2) lQ
  · exact br_t rfl (hno A B M _ _ _ _ _ (vw_X_fr hX own44 ownr fA fB fM (fun j hj => rfl)) nf)
theorem vw_xav {post : Int32 → SX → Prop} {tc Rx Mx vc s l : Nat} {BX DX : Nat → List vw_T} {k t f rt : Int32} {R : List vw_T} (hs : s ≤ 1) (hRx : Rx ≤ 12) (hMx : Mx ≤ 9999) (hN : tc + vc < 11) (hX : vw_X a_rowA a_rowB a_rowM a_size s (tc + vc) Rx Mx BX DX)
    (hk : k = 1 ∨ k = 2 ∨ k = 3 ∨ k = 4 ∨ k = 5 ∨ k = 6 ∨ k = 7 ∨ k = 8 ∨ k = 9) (hl : l < tc + vc) (hrt : (∃ q, q < tc + vc ∧ rt = nI q ∧ R = BX q) ∨ (rt = -1 ∧ R = []))
    (hok : ∀ A B M sz ac aA aB aM Q, vw_X A B M sz s (tc + vc + 1) Rx Mx (vw_up BX (tc + vc) Q) (vw_up DX (tc + vc) []) → (∀ a b, vw_v Q a b = vw_F k t f (BX l) R a b) → vw_fits (fun a b => vw_F k t f (BX l) R a b) Rx Mx → post (nI (tc + vc)) (f_width, f_relSlots, f_emptyList, f_accRoom, f_leastInt, nI tc, f_maxViews, nI Rx, nI Mx, nI s, nI (vc + 1), f_pendCount, ac, f_commits, A, B, M, sz, upd a_relKind (tc + vc) k, upd a_relLeft (tc + vc) (nI l), upd a_relRight (tc + vc) rt, upd a_relFirst (tc + vc) t, upd a_relSecond (tc + vc) f, a_pendTable, a_pendA, a_pendB, a_pendN, aA, aB, aM))
    (hno : ∀ A B M sz ac aA aB aM, vw_X A B M sz s (tc + vc) Rx Mx BX DX → ¬ vw_fits (fun a b => vw_F k t f (BX l) R a b) Rx Mx → post (-5) (f_width, f_relSlots, f_emptyList, f_accRoom, f_leastInt, nI tc, f_maxViews, nI Rx, nI Mx, nI s, nI vc, f_pendCount, ac, f_commits, A, B, M, sz, upd a_relKind (tc + vc) k, upd a_relLeft (tc + vc) (nI l), upd a_relRight (tc + vc) rt, upd a_relFirst (tc + vc) t, upd a_relSecond (tc + vc) f, a_pendTable, a_pendA, a_pendB, a_pendN, aA, aB, aM)) :
    wpX_addView post (f_width, f_relSlots, f_emptyList, f_accRoom, f_leastInt, nI tc, f_maxViews, nI Rx, nI Mx, nI s, nI vc, f_pendCount, f_accCount, f_commits, a_rowA, a_rowB, a_rowM, a_size, a_relKind, a_relLeft, a_relRight, a_relFirst, a_relSecond, a_pendTable, a_pendA, a_pendB, a_pendN, a_accA, a_accB, a_accM) k (nI l) rt t f := by
  have i1 : vp_in (nI (tc + vc)) 11 := vp_in_nI hN (by decide)
  have ec : (nI (tc + vc)).toNatClampNeg = tc + vc := nI_clamp (by omega)
  have ownr : ∀ r, r < tc + vc → s * 22 + r ≠ s * 22 + (tc + vc) ∧ s * 22 + 11 + r ≠ s * 22 + (tc + vc) := fun r hr => ⟨by omega, by omega⟩
  have hX' : vw_X a_rowA a_rowB a_rowM (upd a_size (s * 22 + (tc + vc)) 0) s (tc + vc) Rx Mx BX DX := vw_X_fr hX (by omega) ownr vw_fr_rf vw_fr_rf vw_fr_rf (fun j hj => pk_un hj)
  refine nm_r (e' := nI (tc + vc)) (nI_add _ _) ⟨i1, nm_r (e' := upd a_relKind (tc + vc) k) (by rw [ec]) ⟨i1, nm_r (e' := upd a_relLeft (tc + vc) (nI l)) (by rw [ec]) ⟨i1, nm_r (e' := upd a_relRight (tc + vc) rt) (by rw [ec]) ⟨i1, nm_r (e' := upd a_relFirst (tc + vc) t) (by rw [ec]) ⟨i1, nm_r (e' := upd a_relSecond (tc + vc) f) (by rw [ec]) (vw_bl ⟨vp_in_nI (by omega) (by decide), nm_r (e' := upd a_size (s * 22 + (tc + vc)) 0) (by rw [nI_clamp (by omega)]) (vw_bl ?_)⟩)⟩⟩⟩⟩⟩
  rcases hrt with ⟨q, hq, rfl, rfl⟩ | ⟨rfl, rfl⟩
  · have xq := hX'.2 q hq
    exact br_f (nI_pos (by omega)) (vw_bl (vw_x103 (lr := s * 22 + q) hs hRx hMx hN hX' (vw_H_nil pk_us) pk_us pk_us pk_us hk hl (by omega) xq.1 xq.2.2.1 xq.2.2.2.1 hok hno))
  · exact br_t (by decide) (vw_x103 (lr := 44) hs hRx hMx hN hX' (vw_H_nil pk_us) pk_us pk_us pk_us hk hl (by decide) hX'.1 List.Pairwise.nil (vw_bg_nil Mx) hok hno)
end
end
section
theorem vw_ybag {C : List vw_T} {V : Int32 → Int32 → Int} {Rx Mx : Nat} (nd : vw_nd C) (hv : ∀ a b, vw_v C a b = V a b) (h0 : ∀ a b, 0 ≤ V a b) (hf : vw_fits V Rx Mx) (hR : Rx ≤ 12) : (∀ x, x ∈ C → 0 ≤ x.2.2) ∧ (vw_nz C).length ≤ 12 ∧ vw_bg (vw_nz C) Mx := by
  have h1 : ∀ x, x ∈ C → x.2.2 = V x.1 x.2.1 := fun x hx => by rw [← hv, vw_v_in nd hx]
  have ndz : vw_nd (vw_nz C) := List.Pairwise.filter _ nd
  have h2 : ∀ x, x ∈ C → 0 ≤ x.2.2 := fun x hx => by rw [h1 x hx]; exact h0 _ _
  have h3 : (vw_nz C).length ≤ Rx := by
    have e := hf.2 ((vw_nz C).map (fun x => (x.1, x.2.1))) (vw_rows_nd ndz) (fun y hy => by
      obtain ⟨x, hx, rfl⟩ := List.mem_map.mp hy
      show V x.1 x.2.1 ≠ 0
      rw [← h1 x (List.mem_filter.mp hx).1]
      exact vw_nz_ne hx)
    rw [List.length_map] at e
    exact e
  refine ⟨h2, by omega, ndz, by omega, fun x hx => ?_⟩
  have hxC := (List.mem_filter.mp hx).1
  have g1 := h2 x hxC
  have g2 := vw_nz_ne hx
  have g3 := hf.1 x.1 x.2.1
  rw [← h1 x hxC] at g3
  omega
theorem vw_Y_fr {A B M sz A' B' M' sz' : Nat → Int32} {N Mx o : Nat} {BY WY : Nat → List vw_T} (h : vw_Y A B M sz N Mx BY WY) (ho : ∀ r, r < N → r ≠ o ∧ 11 + r ≠ o) (hA : vw_fr 12 o A A') (hB : vw_fr 12 o B B') (hM : vw_fr 12 o M M') (hs : ∀ j, j ≠ o → sz' j = sz j) : vw_Y A' B' M' sz' N Mx BY WY := by
  intro r hr
  obtain ⟨g1, g2, g3⟩ := h r hr
  have hn := ho r hr
  exact ⟨vw_H_fr g1 hn.1 hA hB hM (hs _ hn.1), vw_H_fr g2 hn.2 hA hB hM (hs _ hn.2), g3⟩
theorem vw_src_n {BX : Nat → List vw_T} {l : Nat} (h : l < 2 ^ 31) : vw_src BX (nI l) = BX l := by
  unfold vw_src
  rw [if_neg (nI_pos h), nI_clamp h]
theorem vw_src_m {BX : Nat → List vw_T} : vw_src BX (-1) = [] := if_pos (by decide)
theorem vw_src_up {BX : Nat → List vw_T} {N : Nat} {Q : List vw_T} {x : Int32} (hN : N ≤ 11) (h : (∃ l, l < N ∧ x = nI l) ∨ x = -1) : vw_src (vw_up BX N Q) x = vw_src BX x := by
  rcases h with ⟨l, hl, rfl⟩ | rfl
  · rw [vw_src_n (by omega), vw_src_n (by omega), vw_up_n (by omega)]
  · rw [vw_src_m, vw_src_m]
section
variable {f_tables f_maxViews f_maxRows f_maxMult f_views f_commits f_pendCount f_calcSize : Int32} {a_kinds a_lefts a_rights a_thirds a_fourths a_size a_rowA a_rowB a_rowN a_pendT a_pendA a_pendB a_pendN a_calcA a_calcB a_calcN : Nat → Int32}
theorem vw_ycv {post : SY → Prop} {r bk l Mx : Nat} {k t f : Int32} {L R : List vw_T} (hr : r < 11) (hbk : bk ≤ 2) (hM : Mx ≤ 9999) (ek : a_kinds r = k) (hk : k = 1 ∨ k = 2 ∨ k = 3 ∨ k = 4 ∨ k = 5 ∨ k = 6 ∨ k = 7 ∨ k = 8 ∨ k = 9) (et : a_thirds r = t) (ef : a_fourths r = f) (el : a_lefts r = nI l) (hl : l < 11) (HL : vw_H 12 a_rowA a_rowB a_rowN a_size (bk * 11 + l) L) (bL : vw_bg L Mx)
    (hrt : (∃ q, q < 11 ∧ a_rights r = nI q ∧ vw_H 12 a_rowA a_rowB a_rowN a_size (bk * 11 + q) R ∧ vw_bg R Mx) ∨ (a_rights r = -1 ∧ ¬ (k = 3 ∨ k = 4 ∨ k = 5)))
    (hp : ∀ c' A' B' N', vw_C A' B' N' c' 144 (fun p q => vw_F k t f L R p q) → post (f_tables, f_maxViews, f_maxRows, f_maxMult, f_views, f_commits, f_pendCount, nI c', a_kinds, a_lefts, a_rights, a_thirds, a_fourths, a_size, a_rowA, a_rowB, a_rowN, a_pendT, a_pendA, a_pendB, a_pendN, A', B', N')) : wpY_compute post (f_tables, f_maxViews, f_maxRows, f_maxMult, f_views, f_commits, f_pendCount, f_calcSize, a_kinds, a_lefts, a_rights, a_thirds, a_fourths, a_size, a_rowA, a_rowB, a_rowN, a_pendT, a_pendA, a_pendB, a_pendN, a_calcA, a_calcB, a_calcN) (nI bk) (nI r) := by
  have ir : vp_in (nI r) 11 := vp_in_nI hr (by decide)
  have er : (nI r).toNatClampNeg = r := nI_clamp (by omega)
  have n0 : ¬ k = 0 := by rcases hk with rfl | rfl | rfl | rfl | rfl | rfl | rfl | rfl | rfl <;> decide
  have e11 : ∀ q, nI bk * 11 + nI q = nI (bk * 11 + q) := fun q => (congrArg (fun z => z + nI q) (pk_mul bk 11)).trans (nI_add _ _)
  refine And.intro ir (nm_r (e' := k) (by rw [er]; exact ek) (br_f n0 ⟨ir, nm_r (e' := nI (bk * 11 + l)) (by rw [er, el]; exact e11 l) ⟨ir, ?_⟩⟩))
  rw [er]
  rcases hrt with ⟨q, hq, eq, HR, bR⟩ | ⟨eq, nk⟩
  · rw [eq]
    exact br_f (nI_pos (by omega)) ⟨ir, nm_r (e11 q) (vw_y116 hk hr (by omega) hM HL bL et ef (fun _ => ⟨by omega, HR, bR⟩) hp)⟩
  · rw [eq]
    exact br_t (by decide) (vw_y116 hk hr (by omega) hM HL bL et ef (fun z => absurd z nk) hp)
theorem vw_ycp {post : SY → Prop} {a b Mx : Nat} {L : List vw_T} (ha : a < 33) (hb : b < 33) (hM : Mx ≤ 9999) (HL : vw_H 12 a_rowA a_rowB a_rowN a_size a L) (bL : vw_bg L Mx)
    (hp : ∀ A B N sz cs cA cB cN Q, vw_fr 12 b a_rowA A → vw_fr 12 b a_rowB B → vw_fr 12 b a_rowN N → (∀ j, j ≠ b → sz j = a_size j) → vw_H 12 A B N sz b Q → vw_bg Q Mx → (∀ x y, vw_v Q x y = vw_v L x y) → post (f_tables, f_maxViews, f_maxRows, f_maxMult, f_views, f_commits, f_pendCount, cs, a_kinds, a_lefts, a_rights, a_thirds, a_fourths, sz, A, B, N, a_pendT, a_pendA, a_pendB, a_pendN, cA, cB, cN)) : wpY_copy post (f_tables, f_maxViews, f_maxRows, f_maxMult, f_views, f_commits, f_pendCount, f_calcSize, a_kinds, a_lefts, a_rights, a_thirds, a_fourths, a_size, a_rowA, a_rowB, a_rowN, a_pendT, a_pendA, a_pendB, a_pendN, a_calcA, a_calcB, a_calcN) (nI a) (nI b) := by
  have w := bL.2.1
  unfold wpY_copy
  dsimp only
  refine vw_yab (sg := 1) rfl ha HL (vw_C_0 a_calcA a_calcB a_calcN) (by omega) (fun c' A' B' N' h' => ?_)
  have bd := vw_bg_v bL
  obtain ⟨C, q1, q2, q3, q4⟩ := vw_C_list (vw_C_eq h' (Nat.le_refl _) (V' := fun p q => vw_v L p q) (fun p q => by omega)) (fun p q => by have := bd p q; omega)
  have bg := vw_ybag (Rx := 12) q2 q4 (fun p q => (bd p q).1) (vw_fits_of (l := L) (fun _ _ => rfl) (fun p q => (bd p q).2) w) (by omega)
  exact vw_yst hb q1 (by have := h'.1; omega) q3 bg.1 bg.2.1 (fun A B N sz fA fB fN hs HQ => hp A B N sz _ _ _ _ (vw_nz C) fA fB fN hs HQ bg.2.2 (fun x y => by rw [vw_nz_v, q4]))
theorem vw_ydf {post : Int32 → SY → Prop} {tc Rx Mx vc l : Nat} {BY WY : Nat → List vw_T} {k t f rt : Int32} (hRx : Rx ≤ 12) (hMx : Mx ≤ 9999) (hN : tc + vc < 11) (hY : vw_Y a_rowA a_rowB a_rowN a_size (tc + vc) Mx BY WY)
    (hk : k = 1 ∨ k = 2 ∨ k = 3 ∨ k = 4 ∨ k = 5 ∨ k = 6 ∨ k = 7 ∨ k = 8 ∨ k = 9) (hl : l < tc + vc) (hrt : (∃ q, q < tc + vc ∧ rt = nI q) ∨ (rt = -1 ∧ ¬ (k = 3 ∨ k = 4 ∨ k = 5)))
    (hok : ∀ A B N sz cs cA cB cN Q W, vw_Y A B N sz (tc + vc + 1) Mx (vw_up BY (tc + vc) Q) (vw_up WY (tc + vc) W) → (∀ a b, vw_v Q a b = vw_F k t f (BY l) (vw_src BY rt) a b) → (∀ a b, vw_v W a b = vw_v Q a b) → vw_fits (fun a b => vw_F k t f (BY l) (vw_src BY rt) a b) Rx Mx → post (nI (tc + vc)) (nI tc, f_maxViews, nI Rx, nI Mx, nI (vc + 1), f_commits, f_pendCount, cs, upd a_kinds (tc + vc) k, upd a_lefts (tc + vc) (nI l), upd a_rights (tc + vc) rt, upd a_thirds (tc + vc) t, upd a_fourths (tc + vc) f, sz, A, B, N, a_pendT, a_pendA, a_pendB, a_pendN, cA, cB, cN))
    (hno : ∀ cs cA cB cN, ¬ vw_fits (fun a b => vw_F k t f (BY l) (vw_src BY rt) a b) Rx Mx → post (-5) (nI tc, f_maxViews, nI Rx, nI Mx, nI vc, f_commits, f_pendCount, cs, upd a_kinds (tc + vc) k, upd a_lefts (tc + vc) (nI l), upd a_rights (tc + vc) rt, upd a_thirds (tc + vc) t, upd a_fourths (tc + vc) f, a_size, a_rowA, a_rowB, a_rowN, a_pendT, a_pendA, a_pendB, a_pendN, cA, cB, cN)) :
    wpY_define post (nI tc, f_maxViews, nI Rx, nI Mx, nI vc, f_commits, f_pendCount, f_calcSize, a_kinds, a_lefts, a_rights, a_thirds, a_fourths, a_size, a_rowA, a_rowB, a_rowN, a_pendT, a_pendA, a_pendB, a_pendN, a_calcA, a_calcB, a_calcN) k (nI l) rt t f := by
  have i1 : vp_in (nI (tc + vc)) 11 := vp_in_nI hN (by decide)
  have ec : (nI (tc + vc)).toNatClampNeg = tc + vc := nI_clamp (by omega)
  have yl := hY l hl
  have bR : vw_bg (vw_src BY rt) Mx := by
    rcases hrt with ⟨q, hq, rfl⟩ | ⟨rfl, _⟩
    · rw [vw_src_n (by omega)]; exact (hY q hq).2.2.1
    · rw [vw_src_m]; exact vw_bg_nil Mx
  have bd : ∀ a b, 0 ≤ vw_F k t f (BY l) (vw_src BY rt) a b ∧ vw_F k t f (BY l) (vw_src BY rt) a b < 2147483648 := vw_F_bd hMx yl.2.2.1 bR
  refine nm_r (e' := nI (tc + vc)) (nI_add _ _) ⟨i1, nm_r (e' := upd a_kinds (tc + vc) k) (by rw [ec]) ⟨i1, nm_r (e' := upd a_lefts (tc + vc) (nI l)) (by rw [ec]) ⟨i1, nm_r (e' := upd a_rights (tc + vc) rt) (by rw [ec]) ⟨i1, nm_r (e' := upd a_thirds (tc + vc) t) (by rw [ec]) ⟨i1, nm_r (e' := upd a_fourths (tc + vc) f) (by rw [ec]) ?_⟩⟩⟩⟩⟩
  refine vw_ycv (bk := 0) (l := l) (L := BY l) (R := vw_src BY rt) hN (by omega) hMx pk_us hk pk_us pk_us pk_us (by omega) (by rw [Nat.zero_mul, Nat.zero_add]; exact yl.1) yl.2.2.1 ?_ (fun c' A' B' N' h' => ?_)
  · rcases hrt with ⟨q, hq, rfl⟩ | ⟨rfl, nk⟩
    · refine Or.inl ⟨q, by omega, pk_us, ?_, bR⟩
      rw [vw_src_n (by omega), Nat.zero_mul, Nat.zero_add]; exact (hY q hq).1
    · exact Or.inr ⟨pk_us, nk⟩
  obtain ⟨C, q1, q2, q3, q4⟩ := vw_C_list h' (fun p q => by have := bd p q; omega)
  refine vw_yft q1 h'.1 hMx hRx q3 q2 q4 (fun hf => br_f (by decide) ?_) (fun nf => br_t rfl (hno _ _ _ _ nf))
  have bg := vw_ybag q2 q4 (fun p q => (bd p q).1) hf hRx
  refine vw_yst (by omega) q1 h'.1 q3 bg.1 bg.2.1 (fun A B N sz fA fB fN hs HQ => ?_)
  rw [show (11 : Int32) + nI (tc + vc) = nI (11 + (tc + vc)) from nI_add 11 (tc + vc)]
  refine vw_ycp (by omega) (by omega) hMx HQ bg.2.2 (fun A2 B2 N2 sz2 cs cA cB cN W fA2 fB2 fN2 hs2 HW bW vW => nm_r (nI_1 _) (hok A2 B2 N2 sz2 _ _ _ _ (vw_nz C) W ?_ (fun a b => by rw [vw_nz_v, q4]) vW hf))
  have y1 := vw_Y_fr hY (fun r hr => ⟨by omega, by omega⟩) fA fB fN hs
  have y2 := vw_Y_fr y1 (fun r hr => ⟨by omega, by omega⟩) fA2 fB2 fN2 hs2
  intro r hr
  by_cases c : r = tc + vc
  · rw [c, vw_up_s, vw_up_s]
    exact ⟨vw_H_fr HQ (by omega) fA2 fB2 fN2 (hs2 _ (by omega)), HW, bg.2.2, bW⟩
  · rw [vw_up_n c, vw_up_n c]; exact y2 r (by omega)
end
theorem vw_ws_u {tc N : Nat} {kd lf rt : Nat → Int32} {a b c : Int32} (h : vw_ws tc N kd lf rt) (hN : tc ≤ N) : vw_ws tc N (upd kd N a) (upd lf N b) (upd rt N c) := by
  refine ⟨fun r hr => by rw [pk_un (by omega)]; exact h.1 r hr, fun r h1 hr => ?_⟩
  have g := h.2 r h1 hr
  unfold vw_df at g ⊢
  rw [pk_un (by omega), pk_un (by omega), pk_un (by omega)]
  exact g
theorem vw_E_u {tc N : Nat} {kd lf rt th fo : Nat → Int32} {BX : Nat → List vw_T} {a b c d e : Int32} (h : vw_E tc N kd lf rt th fo BX) : vw_E tc N (upd kd N a) (upd lf N b) (upd rt N c) (upd th N d) (upd fo N e) BX := by
  intro r h1 hr
  rw [pk_un (by omega), pk_un (by omega), pk_un (by omega), pk_un (by omega), pk_un (by omega)]
  exact h r h1 hr
theorem vw_df_r {kd lf rt : Nat → Int32} {r N : Nat} (h : vw_df kd lf rt r) (hr : r < N) : (∃ l, l < N ∧ lf r = nI l) ∧ ((∃ l, l < N ∧ rt r = nI l) ∨ rt r = -1) := by
  obtain ⟨_, ⟨l, hl, el⟩, h3⟩ := h
  refine ⟨⟨l, by omega, el⟩, ?_⟩
  rcases h3 with ⟨q, hq, eq⟩ | ⟨eq, _⟩
  · exact Or.inl ⟨q, by omega, eq⟩
  · exact Or.inr eq
theorem vw_cmb {tc vm Rx Mx vc pc s : Nat} {a_relKind a_relLeft a_relRight a_relFirst a_relSecond a_pendTable a_pendA a_pendB a_pendN : Nat → Int32} {DX BX BY WY : Nat → List vw_T} {Q Q' W' : List vw_T} {A B M sz A' B' N' sz' : Nat → Int32} {k t f rt : Int32} {l : Nat} (hnum : vw_num tc vm Rx Mx vc s) (hvc : vc < vm) (hL : vw_L (tc + vc) BX DX BY WY) (hE : vw_E tc (tc + vc) a_relKind a_relLeft a_relRight a_relFirst a_relSecond BX) (hW : vw_ws tc (tc + vc) a_relKind a_relLeft a_relRight) (hP : vw_pd a_pendTable a_pendA a_pendB a_pendN pc tc Mx)
    (hk : k = 1 ∨ k = 2 ∨ k = 3 ∨ k = 4 ∨ k = 5 ∨ k = 6 ∨ k = 7 ∨ k = 8 ∨ k = 9) (hl : l < tc + vc) (hrt : (∃ q, q < tc + vc ∧ rt = nI q) ∨ (rt = -1 ∧ ¬ (k = 3 ∨ k = 4 ∨ k = 5)))
    (hX : vw_X A B M sz s (tc + vc + 1) Rx Mx (vw_up BX (tc + vc) Q) (vw_up DX (tc + vc) [])) (hY : vw_Y A' B' N' sz' (tc + vc + 1) Mx (vw_up BY (tc + vc) Q') (vw_up WY (tc + vc) W'))
    (e1 : ∀ a b, vw_v Q a b = vw_F k t f (BX l) (vw_src BX rt) a b) (e2 : ∀ a b, vw_v Q' a b = vw_v Q a b) (e3 : ∀ a b, vw_v W' a b = vw_v Q' a b) :
    vw_R tc vm Rx Mx (vc + 1) pc s A B M sz (upd a_relKind (tc + vc) k) (upd a_relLeft (tc + vc) (nI l)) (upd a_relRight (tc + vc) rt) (upd a_relFirst (tc + vc) t) (upd a_relSecond (tc + vc) f) a_pendTable a_pendA a_pendB a_pendN A' B' N' sz' := by
  have hN := vw_num_N hnum
  have hN2 : tc + vc < 11 := by obtain ⟨n1, n2, n3, n4, n5, n6⟩ := hnum; omega
  refine ⟨vw_up BX (tc + vc) Q, vw_up DX (tc + vc) [], vw_up BY (tc + vc) Q', vw_up WY (tc + vc) W', ?_, hX, hY, ?_, ?_, ?_, hP⟩
  · obtain ⟨n1, n2, n3, n4, n5, n6⟩ := hnum
    exact ⟨n1, n2, n3, n4, by omega, n6⟩
  · intro r hr a b
    by_cases c : r = tc + vc
    · rw [c, vw_up_s, vw_up_s, vw_up_s, vw_up_s, e3, e2, vw_v_nil]
      exact ⟨rfl, by omega⟩
    · rw [vw_up_n c, vw_up_n c, vw_up_n c, vw_up_n c]
      exact hL r (by omega) a b
  · intro r h1 hr a b
    by_cases c : r = tc + vc
    · rw [c, pk_us, pk_us, pk_us, pk_us, pk_us, vw_up_s, vw_src_up (by omega) (Or.inl ⟨l, hl, rfl⟩), vw_src_up (by omega), vw_src_n (by omega)]
      · exact e1 a b
      · rcases hrt with h | h
        · exact Or.inl h
        · exact Or.inr h.1
    · have hr2 : r < tc + vc := by omega
      have d := vw_df_r (hW.2 r h1 hr2) hr2
      rw [pk_un c, pk_un c, pk_un c, pk_un c, pk_un c, vw_up_n c, vw_src_up (by omega) (Or.inl d.1), vw_src_up (by omega) d.2]
      exact hE r h1 hr2 a b
  · refine ⟨fun r hr => by rw [pk_un (by omega)]; exact hW.1 r hr, fun r h1 hr => ?_⟩
    by_cases c : r = tc + vc
    · unfold vw_df
      rw [c, pk_us, pk_us, pk_us]
      exact ⟨hk, ⟨l, hl, rfl⟩, hrt⟩
    · have hr2 : r < tc + vc := by omega
      have g := hW.2 r h1 hr2
      unfold vw_df at g ⊢
      rw [pk_un c, pk_un c, pk_un c]
      exact g
theorem vw_dfn {K : Nat} {tc vm Rx Mx vc pc s : Nat} {f_width f_relSlots f_emptyList f_accRoom f_leastInt f_accCount f_commits f_calcSize : Int32} {a_rowA a_rowB a_rowM a_size a_relKind a_relLeft a_relRight a_relFirst a_relSecond a_pendTable a_pendA a_pendB a_pendN a_accA a_accB : Nat → Int32} {a_accM : Nat → Int64} {b_rowA b_rowB b_rowN b_size c_A c_B c_N : Nat → Int32} {k t f rt : Int32} {l : Nat} {PX : Int32 → SX → Prop} (hR : vw_R tc vm Rx Mx vc pc s a_rowA a_rowB a_rowM a_size a_relKind a_relLeft a_relRight a_relFirst a_relSecond a_pendTable a_pendA a_pendB a_pendN b_rowA b_rowB b_rowN b_size) (hvc : vc < vm) (hk : k = 1 ∨ k = 2 ∨ k = 3 ∨ k = 4 ∨ k = 5 ∨ k = 6 ∨ k = 7 ∨ k = 8 ∨ k = 9) (hl : l < tc + vc) (hrt : (∃ q, q < tc + vc ∧ rt = nI q) ∨ (rt = -1 ∧ ¬ (k = 3 ∨ k = 4 ∨ k = 5)))
    (hp : ∀ (r : Int32) (vc' : Nat) (ac : Int32) (A B M sz kd lf rt' th fo aA aB : Nat → Int32) (aM : Nat → Int64), (∀ PY : Int32 → SY → Prop, (∀ (vc2 : Nat) (cs : Int32) (A' B' N' sz' kd2 lf2 rt2 th2 fo2 cA cB cN : Nat → Int32), i_Rel K (f_width, f_relSlots, f_emptyList, f_accRoom, f_leastInt, nI tc, nI vm, nI Rx, nI Mx, nI s, nI vc', nI pc, ac, f_commits, A, B, M, sz, kd, lf, rt', th, fo, a_pendTable, a_pendA, a_pendB, a_pendN, aA, aB, aM) (nI tc, nI vm, nI Rx, nI Mx, nI vc2, f_commits, nI pc, cs, kd2, lf2, rt2, th2, fo2, sz', A', B', N', a_pendTable, a_pendA, a_pendB, a_pendN, cA, cB, cN) → PY r (nI tc, nI vm, nI Rx, nI Mx, nI vc2, f_commits, nI pc, cs, kd2, lf2, rt2, th2, fo2, sz', A', B', N', a_pendTable, a_pendA, a_pendB, a_pendN, cA, cB, cN)) → wpY_define PY (nI tc, nI vm, nI Rx, nI Mx, nI vc, f_commits, nI pc, f_calcSize, a_relKind, a_relLeft, a_relRight, a_relFirst, a_relSecond, b_size, b_rowA, b_rowB, b_rowN, a_pendTable, a_pendA, a_pendB, a_pendN, c_A, c_B, c_N) k (nI l) rt t f) → PX r (f_width, f_relSlots, f_emptyList, f_accRoom, f_leastInt, nI tc, nI vm, nI Rx, nI Mx, nI s, nI vc', nI pc, ac, f_commits, A, B, M, sz, kd, lf, rt', th, fo, a_pendTable, a_pendA, a_pendB, a_pendN, aA, aB, aM)) :
    wpX_addView PX (f_width, f_relSlots, f_emptyList, f_accRoom, f_leastInt, nI tc, nI vm, nI Rx, nI Mx, nI s, nI vc, nI pc, f_accCount, f_commits, a_rowA, a_rowB, a_rowM, a_size, a_relKind, a_relLeft, a_relRight, a_relFirst, a_relSecond, a_pendTable, a_pendA, a_pendB, a_pendN, a_accA, a_accB, a_accM) k (nI l) rt t f := by
  obtain ⟨BX, DX, BY, WY, hnum, hX, hY, hL, hE, hW, hP⟩ := hR
  have hN := vw_num_N hnum
  obtain ⟨n1, n2, n3, n4, n5, n6⟩ := id hnum
  have bX : vw_ps (BX l) := vw_bg_ps (hX.2 l hl).2.2.2.1
  have bY : vw_ps (BY l) := vw_bg_ps (hY l hl).2.2.1
  have eR : ∀ a b, vw_v (vw_src BY rt) a b = vw_v (vw_src BX rt) a b := by
    intro a b
    rcases hrt with ⟨q, hq, rfl⟩ | ⟨rfl, _⟩
    · rw [vw_src_n (by omega), vw_src_n (by omega)]; exact (hL q hq a b).1
    · rw [vw_src_m, vw_src_m]
  have eF : ∀ a b, vw_F k t f (BY l) (vw_src BY rt) a b = vw_F k t f (BX l) (vw_src BX rt) a b := vw_F_eq bY bX (fun a b => (hL l hl a b).1) eR
  have eF2 : (fun a b => vw_F k t f (BY l) (vw_src BY rt) a b) = (fun a b => vw_F k t f (BX l) (vw_src BX rt) a b) := funext (fun a => funext (fun b => eF a b))
  have hrX : (∃ q, q < tc + vc ∧ rt = nI q ∧ vw_src BX rt = BX q) ∨ (rt = -1 ∧ vw_src BX rt = []) := by
    rcases hrt with ⟨q, hq, rfl⟩ | ⟨rfl, _⟩
    · exact Or.inl ⟨q, hq, rfl, vw_src_n (by omega)⟩
    · exact Or.inr ⟨rfl, vw_src_m⟩
  refine vw_xav (R := vw_src BX rt) n6 n3 n4 (by omega) hX hk hl hrX (fun A B M sz ac aA aB aM Q hX' vQ fit => hp _ (vc + 1) ac A B M sz _ _ _ _ _ aA aB aM (fun PY hPY => ?_)) (fun A B M sz ac aA aB aM hX' nf => hp _ vc ac A B M sz _ _ _ _ _ aA aB aM (fun PY hPY => ?_))
  · refine vw_ydf n3 n4 (by omega) hY hk hl hrt (fun A' B' N' sz' cs cA cB cN Q' W' hY' vQ' vW' _ => hPY (vc + 1) cs A' B' N' sz' _ _ _ _ _ cA cB cN (vw_in (vw_cmb hnum hvc hL hE hW hP hk hl hrt hX' hY' vQ (fun a b => by rw [vQ', vQ, eF]) vW'))) (fun cs cA cB cN nf => absurd fit ?_)
    rw [eF2] at nf
    exact nf
  · refine vw_ydf n3 n4 (by omega) hY hk hl hrt (fun A' B' N' sz' cs cA cB cN Q' W' hY' vQ' vW' fit => absurd ?_ nf) (fun cs cA cB cN _ => hPY vc cs _ _ _ _ _ _ _ _ _ cA cB cN (vw_in ⟨BX, DX, BY, WY, hnum, hX', hY, hL, vw_E_u hE, vw_ws_u hW (by omega), hP⟩))
    rw [eF2] at fit
    exact fit
theorem i_vc_defineSelect {k : Nat} {u : SX} {v : SY} (I : i_Rel k u v) (hk : k + 5 ≤ 2564) (v1 : Int32) (v2 : Int32) (v3 : Int32) : wpX_defineSelect (fun r u' => wpY_defineSelect (fun r' v' => r' = r ∧ i_Rel (k + 5) u' v') v v1 v2 v3) u v1 v2 v3 := by
  refine vw_el (P := fun u v => wpX_defineSelect (fun r u' => wpY_defineSelect (fun r' v' => r' = r ∧ i_Rel (k + 5) u' v') v v1 v2 v3) u v1 v2 v3) ?_ I
  intro tc vm Rx Mx vc pc s f_width f_relSlots f_emptyList f_accRoom f_leastInt f_accCount f_commits f_calcSize a_rowA a_rowB a_rowM a_size a_relKind a_relLeft a_relRight a_relFirst a_relSecond a_pendTable a_pendA a_pendB a_pendN a_accA a_accB a_accM b_rowA b_rowB b_rowN b_size c_A c_B c_N hR
  have hnum : vw_num tc vm Rx Mx vc s := by obtain ⟨_, _, _, _, h1, _⟩ := hR; exact h1
  have hN := vw_num_N hnum
  obtain ⟨n1, n2, n3, n4, n5, n6⟩ := id hnum
  have c0 : v1 < 0 ∨ nI (tc + vc) ≤ v1 ∨ ∃ j, j < tc + vc ∧ v1 = nI j := pk_ix v1 (by omega)
  refine br_c (fun c1 => ?_) (fun c1 => br_f c1 ⟨rfl, vw_in hR⟩)
  have hvc : vc < vm := (nI_ltI (by omega) (by omega)).mp c1
  rcases c0 with c | c | ⟨r, hr, rfl⟩
  · exact vw_xe0 (Or.inl c) (br_t rfl (br_t c1 (vw_ye0 (Or.inl c) (br_t rfl ⟨rfl, vw_in hR⟩))))
  · exact vw_xe0 (Or.inr c) (br_t rfl (br_t c1 (vw_ye0 (Or.inr c) (br_t rfl ⟨rfl, vw_in hR⟩))))
  · refine vw_xe1 hN hr (br_f (by decide) (br_c (fun c2 => br_t c1 (vw_ye1 hN hr (br_f (by decide) (br_t c2 ⟨rfl, vw_in hR⟩)))) (fun c2 => br_c (fun c3 => ?_) (fun c3 => br_t c1 (vw_ye1 hN hr (br_f (by decide) (br_f c2 (br_f c3 ⟨rfl, vw_in hR⟩))))))))
    refine vw_dfn (K := k + 5) (f_calcSize := f_calcSize) (c_A := c_A) (c_B := c_B) (c_N := c_N) hR hvc (Or.inl rfl) hr (Or.inr ⟨rfl, by decide⟩) (fun r2 vc' ac A B M sz kd lf rt' th fo aA aB aM hy => ?_)
    exact br_t c1 (vw_ye1 hN hr (br_f (by decide) (br_f c2 (br_t c3 (hy _ (fun vc2 cs A' B' N' sz' kd2 lf2 rt2 th2 fo2 cA cB cN hI => ⟨rfl, hI⟩))))))
theorem i_vc_defineProject {k : Nat} {u : SX} {v : SY} (I : i_Rel k u v) (hk : k + 5 ≤ 2564) (v1 : Int32) (v2 : Int32) (v3 : Int32) : wpX_defineProject (fun r u' => wpY_defineProject (fun r' v' => r' = r ∧ i_Rel (k + 5) u' v') v v1 v2 v3) u v1 v2 v3 := by
  refine vw_el (P := fun u v => wpX_defineProject (fun r u' => wpY_defineProject (fun r' v' => r' = r ∧ i_Rel (k + 5) u' v') v v1 v2 v3) u v1 v2 v3) ?_ I
  intro tc vm Rx Mx vc pc s f_width f_relSlots f_emptyList f_accRoom f_leastInt f_accCount f_commits f_calcSize a_rowA a_rowB a_rowM a_size a_relKind a_relLeft a_relRight a_relFirst a_relSecond a_pendTable a_pendA a_pendB a_pendN a_accA a_accB a_accM b_rowA b_rowB b_rowN b_size c_A c_B c_N hR
  have hnum : vw_num tc vm Rx Mx vc s := by obtain ⟨_, _, _, _, h1, _⟩ := hR; exact h1
  have hN := vw_num_N hnum
  obtain ⟨n1, n2, n3, n4, n5, n6⟩ := id hnum
  have c0 : ∀ z : Int32, z < 0 ∨ nI (tc + vc) ≤ z ∨ ∃ j, j < tc + vc ∧ z = nI j := fun z => pk_ix z (by omega)
  refine br_c (fun c1 => ?_) (fun c1 => br_f c1 ⟨rfl, vw_in hR⟩)
  have hvc : vc < vm := (nI_ltI (by omega) (by omega)).mp c1
  rcases c0 v1 with c | c | ⟨r, hr, rfl⟩
  · exact vw_xe0 (Or.inl c) (br_t rfl (br_t c1 (vw_ye0 (Or.inl c) (br_t rfl ⟨rfl, vw_in hR⟩))))
  · exact vw_xe0 (Or.inr c) (br_t rfl (br_t c1 (vw_ye0 (Or.inr c) (br_t rfl ⟨rfl, vw_in hR⟩))))
  · have y0 : ∀ PY : Int32 → SY → Prop, ((v2 < 0 → PY (-2) (nI tc, nI vm, nI Rx, nI Mx, nI vc, f_commits, nI pc, f_calcSize, a_relKind, a_relLeft, a_relRight, a_relFirst, a_relSecond, b_size, b_rowA, b_rowB, b_rowN, a_pendTable, a_pendA, a_pendB, a_pendN, c_A, c_B, c_N)) ∧ (¬ v2 < 0 → ((3 < v2 → PY (-2) (nI tc, nI vm, nI Rx, nI Mx, nI vc, f_commits, nI pc, f_calcSize, a_relKind, a_relLeft, a_relRight, a_relFirst, a_relSecond, b_size, b_rowA, b_rowB, b_rowN, a_pendTable, a_pendA, a_pendB, a_pendN, c_A, c_B, c_N)) ∧ (¬ 3 < v2 → ((v3 < 0 → PY (-2) (nI tc, nI vm, nI Rx, nI Mx, nI vc, f_commits, nI pc, f_calcSize, a_relKind, a_relLeft, a_relRight, a_relFirst, a_relSecond, b_size, b_rowA, b_rowB, b_rowN, a_pendTable, a_pendA, a_pendB, a_pendN, c_A, c_B, c_N)) ∧ (¬ v3 < 0 → ((v3 ≤ 3 → wpY_define PY (nI tc, nI vm, nI Rx, nI Mx, nI vc, f_commits, nI pc, f_calcSize, a_relKind, a_relLeft, a_relRight, a_relFirst, a_relSecond, b_size, b_rowA, b_rowB, b_rowN, a_pendTable, a_pendA, a_pendB, a_pendN, c_A, c_B, c_N) 2 (nI r) (-1) v2 v3) ∧ (¬ v3 ≤ 3 → PY (-2) (nI tc, nI vm, nI Rx, nI Mx, nI vc, f_commits, nI pc, f_calcSize, a_relKind, a_relLeft, a_relRight, a_relFirst, a_relSecond, b_size, b_rowA, b_rowB, b_rowN, a_pendTable, a_pendA, a_pendB, a_pendN, c_A, c_B, c_N))))))))) → wpY_defineProject PY (nI tc, nI vm, nI Rx, nI Mx, nI vc, f_commits, nI pc, f_calcSize, a_relKind, a_relLeft, a_relRight, a_relFirst, a_relSecond, b_size, b_rowA, b_rowB, b_rowN, a_pendTable, a_pendA, a_pendB, a_pendN, c_A, c_B, c_N) (nI r) v2 v3 := fun PY h => br_t c1 (vw_ye1 hN hr (br_f (by decide) h))
    refine vw_xe1 hN hr (br_f (by decide) (br_c (fun c2 => y0 _ (br_t c2 ⟨rfl, vw_in hR⟩)) (fun c2 => br_c (fun c3 => y0 _ (br_f c2 (br_t c3 ⟨rfl, vw_in hR⟩))) (fun c3 => br_c (fun c4 => y0 _ (br_f c2 (br_f c3 (br_t c4 ⟨rfl, vw_in hR⟩)))) (fun c4 => br_c (fun c5 => ?_) (fun c5 => y0 _ (br_f c2 (br_f c3 (br_f c4 (br_f c5 ⟨rfl, vw_in hR⟩)))))))))) 
    refine vw_dfn (K := k + 5) (f_calcSize := f_calcSize) (c_A := c_A) (c_B := c_B) (c_N := c_N) hR hvc (Or.inr (Or.inl rfl)) hr (Or.inr ⟨rfl, by decide⟩) (fun r2 vc' ac A B M sz kd lf rt' th fo aA aB aM hy => ?_)
    exact y0 _ (br_f c2 (br_f c3 (br_f c4 (br_t c5 (hy _ (fun vc2 cs A' B' N' sz' kd2 lf2 rt2 th2 fo2 cA cB cN hI => ⟨rfl, hI⟩))))))
theorem i_vc_defineBinary {k : Nat} {u : SX} {v : SY} (I : i_Rel k u v) (hk : k + 5 ≤ 2564) (v1 : Int32) (v2 : Int32) (v3 : Int32) : wpX_defineBinary (fun r u' => wpY_defineBinary (fun r' v' => r' = r ∧ i_Rel (k + 5) u' v') v v1 v2 v3) u v1 v2 v3 := by
  refine vw_el (P := fun u v => wpX_defineBinary (fun r u' => wpY_defineBinary (fun r' v' => r' = r ∧ i_Rel (k + 5) u' v') v v1 v2 v3) u v1 v2 v3) ?_ I
  intro tc vm Rx Mx vc pc s f_width f_relSlots f_emptyList f_accRoom f_leastInt f_accCount f_commits f_calcSize a_rowA a_rowB a_rowM a_size a_relKind a_relLeft a_relRight a_relFirst a_relSecond a_pendTable a_pendA a_pendB a_pendN a_accA a_accB a_accM b_rowA b_rowB b_rowN b_size c_A c_B c_N hR
  have hnum : vw_num tc vm Rx Mx vc s := by obtain ⟨_, _, _, _, h1, _⟩ := hR; exact h1
  have hN := vw_num_N hnum
  obtain ⟨n1, n2, n3, n4, n5, n6⟩ := id hnum
  have c0 : ∀ z : Int32, z < 0 ∨ nI (tc + vc) ≤ z ∨ ∃ j, j < tc + vc ∧ z = nI j := fun z => pk_ix z (by omega)
  refine br_c (fun c1 => ?_) (fun c1 => br_f c1 ⟨rfl, vw_in hR⟩)
  have hvc : vc < vm := (nI_ltI (by omega) (by omega)).mp c1
  rcases c0 v2 with c | c | ⟨r, hr, rfl⟩
  · exact vw_xe0 (Or.inl c) (br_t rfl (br_t c1 (vw_ye0 (Or.inl c) (br_t rfl ⟨rfl, vw_in hR⟩))))
  · exact vw_xe0 (Or.inr c) (br_t rfl (br_t c1 (vw_ye0 (Or.inr c) (br_t rfl ⟨rfl, vw_in hR⟩))))
  rcases c0 v3 with c | c | ⟨q, hq, rfl⟩
  · exact vw_xe1 hN hr (br_f (by decide) (vw_xe0 (Or.inl c) (br_t rfl (br_t c1 (vw_ye1 hN hr (br_f (by decide) (vw_ye0 (Or.inl c) (br_t rfl ⟨rfl, vw_in hR⟩))))))))
  · exact vw_xe1 hN hr (br_f (by decide) (vw_xe0 (Or.inr c) (br_t rfl (br_t c1 (vw_ye1 hN hr (br_f (by decide) (vw_ye0 (Or.inr c) (br_t rfl ⟨rfl, vw_in hR⟩))))))))
  have y0 : ∀ PY : Int32 → SY → Prop, ((v1 = 3 → wY_defineBinary_50 PY v1 (nI r) (nI q) (nI tc) (nI vm) (nI Rx) (nI Mx) (nI vc) f_commits (nI pc) f_calcSize a_relKind a_relLeft a_relRight a_relFirst a_relSecond b_size b_rowA b_rowB b_rowN a_pendTable a_pendA a_pendB a_pendN c_A c_B c_N) ∧ (¬ v1 = 3 → ((v1 = 4 → wY_defineBinary_50 PY v1 (nI r) (nI q) (nI tc) (nI vm) (nI Rx) (nI Mx) (nI vc) f_commits (nI pc) f_calcSize a_relKind a_relLeft a_relRight a_relFirst a_relSecond b_size b_rowA b_rowB b_rowN a_pendTable a_pendA a_pendB a_pendN c_A c_B c_N) ∧ (¬ v1 = 4 → ((v1 = 5 → wY_defineBinary_50 PY v1 (nI r) (nI q) (nI tc) (nI vm) (nI Rx) (nI Mx) (nI vc) f_commits (nI pc) f_calcSize a_relKind a_relLeft a_relRight a_relFirst a_relSecond b_size b_rowA b_rowB b_rowN a_pendTable a_pendA a_pendB a_pendN c_A c_B c_N) ∧ (¬ v1 = 5 → PY (-2) (nI tc, nI vm, nI Rx, nI Mx, nI vc, f_commits, nI pc, f_calcSize, a_relKind, a_relLeft, a_relRight, a_relFirst, a_relSecond, b_size, b_rowA, b_rowB, b_rowN, a_pendTable, a_pendA, a_pendB, a_pendN, c_A, c_B, c_N))))))) → wpY_defineBinary PY (nI tc, nI vm, nI Rx, nI Mx, nI vc, f_commits, nI pc, f_calcSize, a_relKind, a_relLeft, a_relRight, a_relFirst, a_relSecond, b_size, b_rowA, b_rowB, b_rowN, a_pendTable, a_pendA, a_pendB, a_pendN, c_A, c_B, c_N) v1 (nI r) (nI q) := fun PY h => br_t c1 (vw_ye1 hN hr (br_f (by decide) (vw_ye1 hN hq (br_f (by decide) h))))
  refine vw_xe1 hN hr (br_f (by decide) (vw_xe1 hN hq (br_f (by decide) (br_c (fun c2 => ?_) (fun c2 => br_c (fun c3 => ?_) (fun c3 => br_c (fun c4 => ?_) (fun c4 => y0 _ (br_f c2 (br_f c3 (br_f c4 ⟨rfl, vw_in hR⟩))))))))))
  · refine vw_dfn (K := k + 5) (f_calcSize := f_calcSize) (c_A := c_A) (c_B := c_B) (c_N := c_N) hR hvc (by rw [c2]; decide) hr (Or.inl ⟨q, hq, rfl⟩) (fun r2 vc' ac A B M sz kd lf rt' th fo aA aB aM hy => ?_)
    exact y0 _ (br_t c2 (hy _ (fun vc2 cs A' B' N' sz' kd2 lf2 rt2 th2 fo2 cA cB cN hI => ⟨rfl, hI⟩)))
  · refine vw_dfn (K := k + 5) (f_calcSize := f_calcSize) (c_A := c_A) (c_B := c_B) (c_N := c_N) hR hvc (by rw [c3]; decide) hr (Or.inl ⟨q, hq, rfl⟩) (fun r2 vc' ac A B M sz kd lf rt' th fo aA aB aM hy => ?_)
    exact y0 _ (br_f c2 (br_t c3 (hy _ (fun vc2 cs A' B' N' sz' kd2 lf2 rt2 th2 fo2 cA cB cN hI => ⟨rfl, hI⟩))))
  · refine vw_dfn (K := k + 5) (f_calcSize := f_calcSize) (c_A := c_A) (c_B := c_B) (c_N := c_N) hR hvc (by rw [c4]; decide) hr (Or.inl ⟨q, hq, rfl⟩) (fun r2 vc' ac A B M sz kd lf rt' th fo aA aB aM hy => ?_)
    exact y0 _ (br_f c2 (br_f c3 (br_t c4 (hy _ (fun vc2 cs A' B' N' sz' kd2 lf2 rt2 th2 fo2 cA cB cN hI => ⟨rfl, hI⟩)))))
theorem i_vc_defineGroup {k : Nat} {u : SX} {v : SY} (I : i_Rel k u v) (hk : k + 5 ≤ 2564) (v1 : Int32) (v2 : Int32) : wpX_defineGroup (fun r u' => wpY_defineGroup (fun r' v' => r' = r ∧ i_Rel (k + 5) u' v') v v1 v2) u v1 v2 := by
  refine vw_el (P := fun u v => wpX_defineGroup (fun r u' => wpY_defineGroup (fun r' v' => r' = r ∧ i_Rel (k + 5) u' v') v v1 v2) u v1 v2) ?_ I
  intro tc vm Rx Mx vc pc s f_width f_relSlots f_emptyList f_accRoom f_leastInt f_accCount f_commits f_calcSize a_rowA a_rowB a_rowM a_size a_relKind a_relLeft a_relRight a_relFirst a_relSecond a_pendTable a_pendA a_pendB a_pendN a_accA a_accB a_accM b_rowA b_rowB b_rowN b_size c_A c_B c_N hR
  have hnum : vw_num tc vm Rx Mx vc s := by obtain ⟨_, _, _, _, h1, _⟩ := hR; exact h1
  have hN := vw_num_N hnum
  obtain ⟨n1, n2, n3, n4, n5, n6⟩ := id hnum
  have c0 : ∀ z : Int32, z < 0 ∨ nI (tc + vc) ≤ z ∨ ∃ j, j < tc + vc ∧ z = nI j := fun z => pk_ix z (by omega)
  refine br_c (fun c1 => ?_) (fun c1 => br_f c1 ⟨rfl, vw_in hR⟩)
  have hvc : vc < vm := (nI_ltI (by omega) (by omega)).mp c1
  rcases c0 v2 with c | c | ⟨r, hr, rfl⟩
  · exact vw_xe0 (Or.inl c) (br_t rfl (br_t c1 (vw_ye0 (Or.inl c) (br_t rfl ⟨rfl, vw_in hR⟩))))
  · exact vw_xe0 (Or.inr c) (br_t rfl (br_t c1 (vw_ye0 (Or.inr c) (br_t rfl ⟨rfl, vw_in hR⟩))))
  have y0 : ∀ PY : Int32 → SY → Prop, ((v1 = 6 → wY_defineGroup_51 PY v1 (nI r) (nI tc) (nI vm) (nI Rx) (nI Mx) (nI vc) f_commits (nI pc) f_calcSize a_relKind a_relLeft a_relRight a_relFirst a_relSecond b_size b_rowA b_rowB b_rowN a_pendTable a_pendA a_pendB a_pendN c_A c_B c_N) ∧ (¬ v1 = 6 → ((v1 = 7 → wY_defineGroup_51 PY v1 (nI r) (nI tc) (nI vm) (nI Rx) (nI Mx) (nI vc) f_commits (nI pc) f_calcSize a_relKind a_relLeft a_relRight a_relFirst a_relSecond b_size b_rowA b_rowB b_rowN a_pendTable a_pendA a_pendB a_pendN c_A c_B c_N) ∧ (¬ v1 = 7 → ((v1 = 8 → wY_defineGroup_51 PY v1 (nI r) (nI tc) (nI vm) (nI Rx) (nI Mx) (nI vc) f_commits (nI pc) f_calcSize a_relKind a_relLeft a_relRight a_relFirst a_relSecond b_size b_rowA b_rowB b_rowN a_pendTable a_pendA a_pendB a_pendN c_A c_B c_N) ∧ (¬ v1 = 8 → ((v1 = 9 → wY_defineGroup_51 PY v1 (nI r) (nI tc) (nI vm) (nI Rx) (nI Mx) (nI vc) f_commits (nI pc) f_calcSize a_relKind a_relLeft a_relRight a_relFirst a_relSecond b_size b_rowA b_rowB b_rowN a_pendTable a_pendA a_pendB a_pendN c_A c_B c_N) ∧ (¬ v1 = 9 → PY (-2) (nI tc, nI vm, nI Rx, nI Mx, nI vc, f_commits, nI pc, f_calcSize, a_relKind, a_relLeft, a_relRight, a_relFirst, a_relSecond, b_size, b_rowA, b_rowB, b_rowN, a_pendTable, a_pendA, a_pendB, a_pendN, c_A, c_B, c_N))))))))) → wpY_defineGroup PY (nI tc, nI vm, nI Rx, nI Mx, nI vc, f_commits, nI pc, f_calcSize, a_relKind, a_relLeft, a_relRight, a_relFirst, a_relSecond, b_size, b_rowA, b_rowB, b_rowN, a_pendTable, a_pendA, a_pendB, a_pendN, c_A, c_B, c_N) v1 (nI r) := fun PY h => br_t c1 (vw_ye1 hN hr (br_f (by decide) h))
  refine vw_xe1 hN hr (br_f (by decide) (br_c (fun c2 => ?_) (fun c2 => br_c (fun c3 => ?_) (fun c3 => br_c (fun c4 => ?_) (fun c4 => br_c (fun c5 => ?_) (fun c5 => y0 _ (br_f c2 (br_f c3 (br_f c4 (br_f c5 ⟨rfl, vw_in hR⟩))))))))))
  · refine vw_dfn (K := k + 5) (f_calcSize := f_calcSize) (c_A := c_A) (c_B := c_B) (c_N := c_N) hR hvc (by rw [c2]; decide) hr (Or.inr ⟨rfl, by rw [c2]; decide⟩) (fun r2 vc' ac A B M sz kd lf rt' th fo aA aB aM hy => ?_)
    exact y0 _ (br_t c2 (hy _ (fun vc2 cs A' B' N' sz' kd2 lf2 rt2 th2 fo2 cA cB cN hI => ⟨rfl, hI⟩)))
  · refine vw_dfn (K := k + 5) (f_calcSize := f_calcSize) (c_A := c_A) (c_B := c_B) (c_N := c_N) hR hvc (by rw [c3]; decide) hr (Or.inr ⟨rfl, by rw [c3]; decide⟩) (fun r2 vc' ac A B M sz kd lf rt' th fo aA aB aM hy => ?_)
    exact y0 _ (br_f c2 (br_t c3 (hy _ (fun vc2 cs A' B' N' sz' kd2 lf2 rt2 th2 fo2 cA cB cN hI => ⟨rfl, hI⟩))))
  · refine vw_dfn (K := k + 5) (f_calcSize := f_calcSize) (c_A := c_A) (c_B := c_B) (c_N := c_N) hR hvc (by rw [c4]; decide) hr (Or.inr ⟨rfl, by rw [c4]; decide⟩) (fun r2 vc' ac A B M sz kd lf rt' th fo aA aB aM hy => ?_)
    exact y0 _ (br_f c2 (br_f c3 (br_t c4 (hy _ (fun vc2 cs A' B' N' sz' kd2 lf2 rt2 th2 fo2 cA cB cN hI => ⟨rfl, hI⟩)))))
  · refine vw_dfn (K := k + 5) (f_calcSize := f_calcSize) (c_A := c_A) (c_B := c_B) (c_N := c_N) hR hvc (by rw [c5]; decide) hr (Or.inr ⟨rfl, by rw [c5]; decide⟩) (fun r2 vc' ac A B M sz kd lf rt' th fo aA aB aM hy => ?_)
    exact y0 _ (br_f c2 (br_f c3 (br_f c4 (br_t c5 (hy _ (fun vc2 cs A' B' N' sz' kd2 lf2 rt2 th2 fo2 cA cB cN hI => ⟨rfl, hI⟩))))))
end
section
noncomputable def vw_NF (tc pc : Nat) (kd lf rt th fo T pA pB pN : Nat → Int32) (BX NX : Nat → List vw_T) (r : Nat) (a b : Int32) : Int :=
  if r < tc then vw_v (BX r) a b + vw_pS T pA pB pN (nI r) a b pc else vw_F (kd r) (th r) (fo r) (vw_src NX (lf r)) (vw_src NX (rt r)) a b
theorem vw_NF_t {tc pc : Nat} {kd lf rt th fo T pA pB pN : Nat → Int32} {BX NX : Nat → List vw_T} {r : Nat} (h : r < tc) (a b : Int32) : vw_NF tc pc kd lf rt th fo T pA pB pN BX NX r a b = vw_v (BX r) a b + vw_pS T pA pB pN (nI r) a b pc := if_pos h
theorem vw_NF_v {tc pc : Nat} {kd lf rt th fo T pA pB pN : Nat → Int32} {BX NX : Nat → List vw_T} {r : Nat} (h : ¬ r < tc) (a b : Int32) : vw_NF tc pc kd lf rt th fo T pA pB pN BX NX r a b = vw_F (kd r) (th r) (fo r) (vw_src NX (lf r)) (vw_src NX (rt r)) a b := if_neg h
theorem vw_NF_up {tc pc N : Nat} {kd lf rt th fo T pA pB pN : Nat → Int32} {BX NX : Nat → List vw_T} {r r' : Nat} {Q : List vw_T} (hW : vw_ws tc N kd lf rt) (hN : N ≤ 11) (hr : r < N) (h : r' ≤ r) (a b : Int32) : vw_NF tc pc kd lf rt th fo T pA pB pN BX (vw_up NX r Q) r' a b = vw_NF tc pc kd lf rt th fo T pA pB pN BX NX r' a b := by
  by_cases c : r' < tc
  · rw [vw_NF_t c, vw_NF_t c]
  · have d := hW.2 r' (by omega) (by omega)
    obtain ⟨_, ⟨l, hl, el⟩, h3⟩ := d
    rw [vw_NF_v c, vw_NF_v c, vw_src_up (by omega) (Or.inl ⟨l, by omega, el⟩), vw_src_up (by omega)]
    rcases h3 with ⟨q, hq, eq⟩ | ⟨eq, _⟩
    · exact Or.inl ⟨q, by omega, eq⟩
    · exact Or.inr eq
section
variable {f_width f_relSlots f_emptyList f_accRoom f_leastInt f_tableCount f_maxViews f_maxRows f_maxMult f_side f_viewCount f_pendCount f_accCount f_commits : Int32} {a_rowA a_rowB a_rowM a_size a_relKind a_relLeft a_relRight a_relFirst a_relSecond a_pendTable a_pendA a_pendB a_pendN a_accA a_accB : Nat → Int32} {a_accM : Nat → Int64}
theorem vw_xgv {post : SX → Prop} {tc vc Rx Mx pc s r N : Nat} {BX DX NX ND : Nat → List vw_T} (hs : s ≤ 1) (hMx : Mx ≤ 9999) (hN : N ≤ 11) (hr : r < N) (htr : ¬ r < tc)
    (hX : vw_X a_rowA a_rowB a_rowM a_size s N Rx Mx BX DX) (hX2 : vw_X a_rowA a_rowB a_rowM a_size (1 - s) r Rx Mx NX ND) (hW : vw_ws tc N a_relKind a_relLeft a_relRight) (hE : vw_E tc N a_relKind a_relLeft a_relRight a_relFirst a_relSecond BX)
    (hD : ∀ r', r' < r → ∀ a b, vw_v (NX r') a b = vw_v (BX r') a b + vw_v (ND r') a b)
    (hp : ∀ c' A' B' M', vw_A A' B' M' c' 576 (fun p q => vw_NF tc pc a_relKind a_relLeft a_relRight a_relFirst a_relSecond a_pendTable a_pendA a_pendB a_pendN BX NX r p q - vw_v (BX r) p q) → post (f_width, f_relSlots, f_emptyList, f_accRoom, f_leastInt, nI tc, f_maxViews, nI Rx, nI Mx, nI s, nI vc, nI pc, nI c', f_commits, a_rowA, a_rowB, a_rowM, a_size, a_relKind, a_relLeft, a_relRight, a_relFirst, a_relSecond, a_pendTable, a_pendA, a_pendB, a_pendN, A', B', M')) :
    wpX_gatherView post (f_width, f_relSlots, f_emptyList, f_accRoom, f_leastInt, nI tc, f_maxViews, nI Rx, nI Mx, nI s, nI vc, nI pc, 0, f_commits, a_rowA, a_rowB, a_rowM, a_size, a_relKind, a_relLeft, a_relRight, a_relFirst, a_relSecond, a_pendTable, a_pendA, a_pendB, a_pendN, a_accA, a_accB, a_accM) (nI r) (nI (1 - s)) := by
  obtain ⟨hk, ⟨l, hl, el⟩, h3⟩ := hW.2 r (by omega) hr
  have ir : vp_in (nI r) 11 := vp_in_nI (by omega) (by decide)
  have er : (nI r).toNatClampNeg = r := nI_clamp (by omega)
  have xr := hX.2 r hr
  have xl := hX.2 l (by omega)
  have zl := hX2.2 l hl
  have eE := hE r (by omega) hr
  refine And.intro ir (nm_r (e' := nI l) (by rw [er]; exact el) ⟨ir, nm_r (e' := a_relRight r) (by rw [er]) (vw_dl (vw_bl (vw_bl ?_)))⟩)
  rcases h3 with ⟨q, hq, eq⟩ | ⟨eq, nk⟩
  · have xq := hX.2 q (by omega)
    have zq := hX2.2 q hq
    rw [eq]
    refine br_f (nI_pos (by omega)) (vw_dl (vw_bl ?_))
    unfold wX_gatherView_73
    refine vw_der (E := fun _ _ => 0) (c := 0) (Mx := Mx) (oL := BX l) (oR := BX q) (O := BX r) (by omega) hs hMx rfl rfl rfl hk (by omega) (by omega) (by omega) (by omega) (by omega) zl.2.1 zl.1 xl.1 zq.2.1 zq.1 xr.1 hX.1 zl.2.2.2.2.2.1 zl.2.2.1 zq.2.2.2.2.2.1 zq.2.2.1 xr.2.2.1 zl.2.2.2.1 xl.2.2.2.1 zq.2.2.2.1 xr.2.2.2.1 (hD l hl) (hD q hq) (fun a b => ?_) (vw_A_0 _ _ _) (fun c' A' B' M' h' => hp c' A' B' M' (vw_A_eq h' (Nat.le_refl _) (fun p w => ?_)))
    · rw [eE, el, eq, vw_src_n (by omega), vw_src_n (by omega)]
    · rw [vw_NF_v htr, eE, el, eq, vw_src_n (by omega), vw_src_n (by omega), vw_src_n (by omega), vw_src_n (by omega)]
      omega
  · rw [eq]
    refine br_t (by decide) ?_
    unfold wX_gatherView_73
    refine vw_der (E := fun _ _ => 0) (c := 0) (ldR := 44) (lnR := 44) (Mx := Mx) (oL := BX l) (oR := []) (dR := []) (nR := []) (O := BX r) (by omega) hs hMx rfl rfl rfl hk (by omega) (by omega) (by omega) (by decide) (by decide) zl.2.1 zl.1 xl.1 hX.1 hX.1 xr.1 hX.1 zl.2.2.2.2.2.1 zl.2.2.1 List.Pairwise.nil List.Pairwise.nil xr.2.2.1 zl.2.2.2.1 xl.2.2.2.1 (vw_bg_nil Mx) xr.2.2.2.1 (hD l hl) (fun a b => rfl) (fun a b => ?_) (vw_A_0 _ _ _) (fun c' A' B' M' h' => hp c' A' B' M' (vw_A_eq h' (Nat.le_refl _) (fun p w => ?_)))
    · rw [eE, el, eq, vw_src_n (by omega), vw_src_m]
    · rw [vw_NF_v htr, eE, el, eq, vw_src_n (by omega), vw_src_n (by omega), vw_src_m, vw_src_m]
      omega
theorem vw_x71 {post : Int32 → SX → Prop} {J : Int32 → Int32 → Int32 → Int32 → Int32 → Int32 → Int32 → Int32 → Int32 → Int32 → Int32 → Int32 → Int32 → Int32 → Int32 → (Nat → Int32) → (Nat → Int32) → (Nat → Int32) → (Nat → Int32) → (Nat → Int32) → (Nat → Int32) → (Nat → Int32) → (Nat → Int32) → (Nat → Int32) → (Nat → Int32) → (Nat → Int32) → (Nat → Int32) → (Nat → Int32) → (Nat → Int32) → (Nat → Int32) → (Nat → Int64) → Prop} {tc vc Rx Mx pc s r N c : Nat} {x2 : Int32} {BX DX NX ND : Nat → List vw_T} {vn : Int32 → Int32 → Int} (hs : s ≤ 1) (hRx : Rx ≤ 12) (hMx : Mx ≤ 9999) (hN : N ≤ 11) (hr : r < N)
    (hX : vw_X a_rowA a_rowB a_rowM a_size s N Rx Mx BX DX) (hX2 : vw_X a_rowA a_rowB a_rowM a_size (1 - s) r Rx Mx NX ND) (hvn : ∀ a b, 0 ≤ vn a b ∧ vn a b < 2147483648)
    (h : vw_A a_accA a_accB a_accM c 576 (fun p q => vn p q - vw_v (BX r) p q))
    (hJ : ∀ A B M sz Q D, vw_X A B M sz s N Rx Mx BX DX → vw_X A B M sz (1 - s) (r + 1) Rx Mx (vw_up NX r Q) (vw_up ND r D) → (∀ a b, vw_v Q a b = vn a b) → (∀ a b, vw_v Q a b = vw_v (BX r) a b + vw_v D a b) → J (nI (r + 1)) f_width f_relSlots f_emptyList f_accRoom f_leastInt (nI tc) f_maxViews (nI Rx) (nI Mx) (nI s) (nI vc) (nI pc) (nI c) f_commits A B M sz a_relKind a_relLeft a_relRight a_relFirst a_relSecond a_pendTable a_pendA a_pendB a_pendN a_accA a_accB a_accM)
    (hno : ∀ A B M sz, vw_X A B M sz s N Rx Mx BX DX → ¬ vw_fits vn Rx Mx → post (100 + nI r) (f_width, f_relSlots, f_emptyList, f_accRoom, f_leastInt, nI tc, f_maxViews, nI Rx, nI Mx, nI s, nI vc, nI pc, nI c, f_commits, A, B, M, sz, a_relKind, a_relLeft, a_relRight, a_relFirst, a_relSecond, a_pendTable, a_pendA, a_pendB, a_pendN, a_accA, a_accB, a_accM)) :
    wX_commit_71 post J (nI (1 - s)) x2 (nI r) f_width f_relSlots f_emptyList f_accRoom f_leastInt (nI tc) f_maxViews (nI Rx) (nI Mx) (nI s) (nI vc) (nI pc) (nI c) f_commits a_rowA a_rowB a_rowM a_size a_relKind a_relLeft a_relRight a_relFirst a_relSecond a_pendTable a_pendA a_pendB a_pendN a_accA a_accB a_accM := by
  have xr := hX.2 r hr
  have bv := vw_bg_v xr.2.2.2.1
  obtain ⟨C, q1, q2, q3, q4⟩ := vw_A_list h (fun a b => by have := bv a b; have := hvn a b; omega)
  have hbC : ∀ x, x ∈ C → -2147483648 ≤ x.2.2 ∧ x.2.2 < 2147483648 := by
    intro x hx
    have e1 := vw_v_in (vw_so_nd q2) hx
    rw [q4] at e1
    have := bv x.1 x.2.1
    have := hvn x.1 x.2.1
    omega
  have o1 : ∀ r', r' < N → s * 22 + r' ≠ (1 - s) * 22 + r ∧ s * 22 + 11 + r' ≠ (1 - s) * 22 + r := fun r' h' => ⟨by omega, by omega⟩
  have o2 : ∀ r', r' < N → s * 22 + r' ≠ (1 - s) * 22 + 11 + r ∧ s * 22 + 11 + r' ≠ (1 - s) * 22 + 11 + r := fun r' h' => ⟨by omega, by omega⟩
  have o3 : ∀ r', r' < r → (1 - s) * 22 + r' ≠ (1 - s) * 22 + r ∧ (1 - s) * 22 + 11 + r' ≠ (1 - s) * 22 + r := fun r' h' => ⟨by omega, by omega⟩
  have o4 : ∀ r', r' < r → (1 - s) * 22 + r' ≠ (1 - s) * 22 + 11 + r ∧ (1 - s) * 22 + 11 + r' ≠ (1 - s) * 22 + 11 + r := fun r' h' => ⟨by omega, by omega⟩
  unfold wX_commit_71
  refine vw_bl (vw_bl (vw_set (O := BX r) (C := C) (vn := vn) (by omega) (by omega) (by omega) hRx hMx xr.2.2.2.1.2.1 q1 h.1 q3 q2 xr.2.2.1 xr.1 hvn (fun a b => by rw [q4]; omega) (fun A B M Q fA fB fM HQ sQ bQ lQ vQ => ?_) (fun A B M fA fB fM nf => ?_)))
  · have vQ2 : ∀ a b, vw_v Q a b = vw_v (BX r) a b + vw_v C a b := fun a b => by rw [vQ, q4]; omega
    refine br_f (by decide) (vw_dl (vw_sd (C := C) (by omega) q1 h.1 q3 hbC (vw_nz_len q2 (vw_bg_ps xr.2.2.2.1) (vw_bg_ps bQ) vQ2 xr.2.2.2.1.2.1 bQ.2.1) (fun A2 B2 M2 fA2 fB2 fM2 HD => nm_r (nI_1 _) (hJ A2 B2 M2 _ Q (vw_nz C) ?_ ?_ vQ (fun a b => by rw [vQ2, vw_nz_v])))))
    · have g1 := vw_X_fr (sz' := upd a_size ((1 - s) * 22 + r) (nI Q.length)) hX (by omega) o1 fA fB fM (fun j hj => pk_un hj)
      exact vw_X_fr g1 (by omega) o2 fA2 fB2 fM2 (fun j hj => pk_un hj)
    · have g1 := vw_X_fr (sz' := upd a_size ((1 - s) * 22 + r) (nI Q.length)) hX2 (by omega) o3 fA fB fM (fun j hj => pk_un hj)
      have g2 := vw_X_fr (sz' := upd (upd a_size ((1 - s) * 22 + r) (nI Q.length)) ((1 - s) * 22 + 11 + r) (nI (vw_nz C).length)) g1 (by omega) o4 fA2 fB2 fM2 (fun j hj => pk_un hj)
      exact vw_X_s g2 ⟨vw_H_fr HQ (by omega) fA2 fB2 fM2 (pk_un (by omega)), HD, sQ, bQ, lQ, vw_nz_so q2, fun x hx => vw_nz_ne hx⟩
  · exact br_t rfl (hno A B M _ (vw_X_fr hX (by omega) o1 fA fB fM (fun j hj => rfl)) nf)
theorem vw_xcm_loop {post : Int32 → SX → Prop} {tc vc Rx Mx pc s : Nat} {BX DX : Nat → List vw_T} (hs : s ≤ 1) (hRx : Rx ≤ 12) (hMx : Mx ≤ 9999) (hN : tc + vc ≤ 11) (hW : vw_ws tc (tc + vc) a_relKind a_relLeft a_relRight) (hE : vw_E tc (tc + vc) a_relKind a_relLeft a_relRight a_relFirst a_relSecond BX) (hP : vw_pd a_pendTable a_pendA a_pendB a_pendN pc tc Mx) (htc : tc ≤ 3)
    (hbz : ¬ vw_bz a_pendTable a_pendA a_pendB a_pendN (fun t => vw_v (BX t)) pc)
    (hok : ∀ A B M sz ac aA aB aM NX ND, vw_X A B M sz (1 - s) (tc + vc) Rx Mx NX ND → (∀ r, r < tc + vc → ∀ a b, vw_v (NX r) a b = vw_NF tc pc a_relKind a_relLeft a_relRight a_relFirst a_relSecond a_pendTable a_pendA a_pendB a_pendN BX NX r a b ∧ vw_v (NX r) a b = vw_v (BX r) a b + vw_v (ND r) a b) → post 0 (f_width, f_relSlots, f_emptyList, f_accRoom, f_leastInt, nI tc, f_maxViews, nI Rx, nI Mx, nI (1 - s), nI vc, 0, ac, f_commits + 1, A, B, M, sz, a_relKind, a_relLeft, a_relRight, a_relFirst, a_relSecond, a_pendTable, a_pendA, a_pendB, a_pendN, aA, aB, aM))
    (hno : ∀ A B M sz ac aA aB aM NX r, r < tc + vc → vw_X A B M sz s (tc + vc) Rx Mx BX DX → (∀ r', r' < r → vw_bg (NX r') Mx ∧ (NX r').length ≤ Rx ∧ ∀ a b, vw_v (NX r') a b = vw_NF tc pc a_relKind a_relLeft a_relRight a_relFirst a_relSecond a_pendTable a_pendA a_pendB a_pendN BX NX r' a b) → ¬ vw_fits (fun a b => vw_NF tc pc a_relKind a_relLeft a_relRight a_relFirst a_relSecond a_pendTable a_pendA a_pendB a_pendN BX NX r a b) Rx Mx → post (100 + nI r) (f_width, f_relSlots, f_emptyList, f_accRoom, f_leastInt, nI tc, f_maxViews, nI Rx, nI Mx, nI s, nI vc, nI pc, ac, f_commits, A, B, M, sz, a_relKind, a_relLeft, a_relRight, a_relFirst, a_relSecond, a_pendTable, a_pendA, a_pendB, a_pendN, aA, aB, aM)) :
    ∀ (d r n : Nat) (ac : Int32) (A B M sz aA aB : Nat → Int32) (aM : Nat → Int64) (NX ND : Nat → List vw_T), r + d = tc + vc → d < n → vw_X A B M sz s (tc + vc) Rx Mx BX DX → vw_X A B M sz (1 - s) r Rx Mx NX ND → (∀ r', r' < r → ∀ a b, vw_v (NX r') a b = vw_NF tc pc a_relKind a_relLeft a_relRight a_relFirst a_relSecond a_pendTable a_pendA a_pendB a_pendN BX NX r' a b ∧ vw_v (NX r') a b = vw_v (BX r') a b + vw_v (ND r') a b) →
    wX_commit_39 post (nI (1 - s)) (nI (tc + vc)) n (nI r) f_width f_relSlots f_emptyList f_accRoom f_leastInt (nI tc) f_maxViews (nI Rx) (nI Mx) (nI s) (nI vc) (nI pc) ac f_commits A B M sz a_relKind a_relLeft a_relRight a_relFirst a_relSecond a_pendTable a_pendA a_pendB a_pendN aA aB aM := by
  intro d
  induction d with
  | zero =>
    intro r n ac A B M sz aA aB aM NX ND hd hn hX hX2 hV
    obtain ⟨n, rfl⟩ : ∃ m, n = m + 1 := ⟨n - 1, by omega⟩
    have er : r = tc + vc := by omega
    subst er
    exact br_t (nI_le (by omega) (by omega)) (nm_e (hok A B M sz ac aA aB aM NX ND hX2 hV))
  | succ d ih =>
    intro r n ac A B M sz aA aB aM NX ND hd hn hX hX2 hV
    obtain ⟨n, rfl⟩ : ∃ m, n = m + 1 := ⟨n - 1, by omega⟩
    have hr : r < tc + vc := by omega
    have hvn : ∀ a b, 0 ≤ vw_NF tc pc a_relKind a_relLeft a_relRight a_relFirst a_relSecond a_pendTable a_pendA a_pendB a_pendN BX NX r a b ∧ vw_NF tc pc a_relKind a_relLeft a_relRight a_relFirst a_relSecond a_pendTable a_pendA a_pendB a_pendN BX NX r a b < 2147483648 := by
      intro a b
      by_cases c : r < tc
      · rw [vw_NF_t c]
        refine vw_pS_bd hP hMx (vw_bg_v (hX.2 r hr).2.2.2.1) (fun e he ee => ?_) a b
        apply Classical.byContradiction
        intro z
        exact hbz ⟨e, r, he, by omega, ee, by dsimp only; omega⟩
      · obtain ⟨hk, ⟨l, hl, el⟩, h3⟩ := hW.2 r (by omega) hr
        rw [vw_NF_v c, el, vw_src_n (by omega)]
        refine vw_F_bd hMx (hX2.2 l hl).2.2.2.1 ?_ a b
        rcases h3 with ⟨q, hq, eq⟩ | ⟨eq, _⟩
        · rw [eq, vw_src_n (by omega)]; exact (hX2.2 q hq).2.2.2.1
        · rw [eq, vw_src_m]; exact vw_bg_nil Mx
    have fin : ∀ c' A' B' M', vw_A A' B' M' c' 576 (fun p q => vw_NF tc pc a_relKind a_relLeft a_relRight a_relFirst a_relSecond a_pendTable a_pendA a_pendB a_pendN BX NX r p q - vw_v (BX r) p q) → wX_commit_71 post (wX_commit_39 post (nI (1 - s)) (nI (tc + vc)) n) (nI (1 - s)) (nI (tc + vc)) (nI r) f_width f_relSlots f_emptyList f_accRoom f_leastInt (nI tc) f_maxViews (nI Rx) (nI Mx) (nI s) (nI vc) (nI pc) (nI c') f_commits A B M sz a_relKind a_relLeft a_relRight a_relFirst a_relSecond a_pendTable a_pendA a_pendB a_pendN A' B' M' := by
      intro c' A' B' M' h'
      refine vw_x71 hs hRx hMx hN hr hX hX2 hvn h' (fun A2 B2 M2 sz2 Q D g1 g2 vQ vQ2 => ih (r + 1) n _ A2 B2 M2 sz2 _ _ _ (vw_up NX r Q) (vw_up ND r D) (by omega) (by omega) g1 g2 (fun r' hr' a b => ?_)) (fun A2 B2 M2 sz2 g1 nf => hno A2 B2 M2 sz2 _ _ _ _ NX r hr g1 (fun r' hr' => ⟨(hX2.2 r' hr').2.2.2.1, (hX2.2 r' hr').2.2.2.2.1, fun a b => (hV r' hr' a b).1⟩) nf)
      rw [vw_NF_up hW hN hr (by omega)]
      by_cases c : r' = r
      · rw [c, vw_up_s, vw_up_s]
        exact ⟨vQ a b, vQ2 a b⟩
      · rw [vw_up_n c, vw_up_n c]
        exact hV r' (by omega) a b
    refine br_f (nI_ge (by omega) (by omega)) ?_
    by_cases c : r < tc
    · exact br_f (nI_ge (by omega) (by omega)) (vw_xgt (c := 0) hP.1 (by omega) (vw_A_0 _ _ _) (fun c' A' B' M' h' => fin c' A' B' M' (vw_A_eq h' (Nat.le_refl _) (fun p q => by rw [vw_NF_t c]; omega))))
    · exact br_t (nI_le (by omega) (by omega)) (vw_xgv hs hMx hN hr c hX hX2 hW hE (fun r' hr' a b => (hV r' hr' a b).2) fin)
end
end
section
def vw_Yn (A B M sz : Nat → Int32) (N Mx : Nat) (NY NX : Nat → List vw_T) : Prop := ∀ r, r < N → vw_H 12 A B M sz (22 + r) (NY r) ∧ vw_bg (NY r) Mx ∧ ∀ a b, vw_v (NY r) a b = vw_v (NX r) a b
theorem vw_Yn_fr {A B M sz A' B' M' sz' : Nat → Int32} {N Mx o : Nat} {NY NX : Nat → List vw_T} (h : vw_Yn A B M sz N Mx NY NX) (ho : ∀ r, r < N → 22 + r ≠ o) (hA : vw_fr 12 o A A') (hB : vw_fr 12 o B B') (hM : vw_fr 12 o M M') (hs : ∀ j, j ≠ o → sz' j = sz j) : vw_Yn A' B' M' sz' N Mx NY NX := fun r hr =>
  ⟨vw_H_fr (h r hr).1 (ho r hr) hA hB hM (hs _ (ho r hr)), (h r hr).2⟩
section
variable {f_tables f_maxViews f_maxRows f_maxMult f_views f_commits f_pendCount f_calcSize : Int32} {a_kinds a_lefts a_rights a_thirds a_fourths a_size a_rowA a_rowB a_rowN a_pendT a_pendA a_pendB a_pendN a_calcA a_calcB a_calcN : Nat → Int32}
theorem vw_y65_loop {post : Int32 → SY → Prop} {tc vc Rx Mx pc r0 : Nat} {BX BY WY NX : Nat → List vw_T} (hRx : Rx ≤ 12) (hMx : Mx ≤ 9999) (hN : tc + vc ≤ 11) (h12 : pc ≤ 12) (hW : vw_ws tc (tc + vc) a_kinds a_lefts a_rights) (hB : ∀ r, r < tc + vc → ∀ a b, vw_v (BY r) a b = vw_v (BX r) a b) (hr0 : r0 ≤ tc + vc)
    (hbd : ∀ r, r < tc → ∀ a b, 0 ≤ vw_v (BX r) a b + vw_pS a_pendT a_pendA a_pendB a_pendN (nI r) a b pc ∧ vw_v (BX r) a b + vw_pS a_pendT a_pendA a_pendB a_pendN (nI r) a b pc < 2147483648)
    (hC : ∀ r', r' < r0 → vw_bg (NX r') Mx ∧ (NX r').length ≤ Rx ∧ ∀ a b, vw_v (NX r') a b = vw_NF tc pc a_kinds a_lefts a_rights a_thirds a_fourths a_pendT a_pendA a_pendB a_pendN BX NX r' a b)
    (hF : r0 < tc + vc → ¬ vw_fits (fun a b => vw_NF tc pc a_kinds a_lefts a_rights a_thirds a_fourths a_pendT a_pendA a_pendB a_pendN BX NX r0 a b) Rx Mx)
    (hok : r0 = tc + vc → ∀ A B N sz cs cA cB cN NY, vw_Y A B N sz (tc + vc) Mx BY WY → vw_Yn A B N sz (tc + vc) Mx NY NX → ∃ n112 : Nat, wY_commit_112 post n112 0 (nI tc) f_maxViews (nI Rx) (nI Mx) (nI vc) f_commits (nI pc) cs a_kinds a_lefts a_rights a_thirds a_fourths sz A B N a_pendT a_pendA a_pendB a_pendN cA cB cN)
    (hno : ∀ A B N sz cs cA cB cN, r0 < tc + vc → vw_Y A B N sz (tc + vc) Mx BY WY → post (100 + nI r0) (nI tc, f_maxViews, nI Rx, nI Mx, nI vc, f_commits, nI pc, cs, a_kinds, a_lefts, a_rights, a_thirds, a_fourths, sz, A, B, N, a_pendT, a_pendA, a_pendB, a_pendN, cA, cB, cN)) :
    ∀ (d r n : Nat) (cs : Int32) (A B N sz cA cB cN : Nat → Int32) (NY : Nat → List vw_T), r + d = tc + vc → d < n → r ≤ r0 → vw_Y A B N sz (tc + vc) Mx BY WY → vw_Yn A B N sz r Mx NY NX →
    wY_commit_65 post n (nI r) (nI tc) f_maxViews (nI Rx) (nI Mx) (nI vc) f_commits (nI pc) cs a_kinds a_lefts a_rights a_thirds a_fourths sz A B N a_pendT a_pendA a_pendB a_pendN cA cB cN := by
  intro d
  induction d with
  | zero =>
    intro r n cs A B N sz cA cB cN NY hd hn hrr hY hYn
    obtain ⟨n, rfl⟩ : ∃ m, n = m + 1 := ⟨n - 1, by omega⟩
    have er : r = tc + vc := by omega
    subst er
    refine br_t ?_ (hok (by omega) A B N sz cs cA cB cN NY hY hYn)
    rw [nI_add]; exact nI_le (by omega) (by omega)
  | succ d ih =>
    intro r n cs A B N sz cA cB cN NY hd hn hrr hY hYn
    obtain ⟨n, rfl⟩ : ∃ m, n = m + 1 := ⟨n - 1, by omega⟩
    have hr : r < tc + vc := by omega
    have yr := hY r hr
    have main : ∀ c' A' B' N', (∀ a b, 0 ≤ vw_NF tc pc a_kinds a_lefts a_rights a_thirds a_fourths a_pendT a_pendA a_pendB a_pendN BX NX r a b ∧ vw_NF tc pc a_kinds a_lefts a_rights a_thirds a_fourths a_pendT a_pendA a_pendB a_pendN BX NX r a b < 2147483648) → vw_C A' B' N' c' 144 (fun p q => vw_NF tc pc a_kinds a_lefts a_rights a_thirds a_fourths a_pendT a_pendA a_pendB a_pendN BX NX r p q) →
        wpY_fits (fun r_82 => (r_82 = 0 → post (100 + nI r) (nI tc, f_maxViews, nI Rx, nI Mx, nI vc, f_commits, nI pc, nI c', a_kinds, a_lefts, a_rights, a_thirds, a_fourths, sz, A, B, N, a_pendT, a_pendA, a_pendB, a_pendN, A', B', N')) ∧ (¬ r_82 = 0 → wpY_store (fun u => match u with | (f_tables, f_maxViews, f_maxRows, f_maxMult, f_views, f_commits, f_pendCount, f_calcSize, a_kinds, a_lefts, a_rights, a_thirds, a_fourths, a_size, a_rowA, a_rowB, a_rowN, a_pendT, a_pendA, a_pendB, a_pendN, a_calcA, a_calcB, a_calcN) => ∀ x1_133 : Int32, x1_133 = nI r + 1 → wY_commit_65 post n x1_133 f_tables f_maxViews f_maxRows f_maxMult f_views f_commits f_pendCount f_calcSize a_kinds a_lefts a_rights a_thirds a_fourths a_size a_rowA a_rowB a_rowN a_pendT a_pendA a_pendB a_pendN a_calcA a_calcB a_calcN) (nI tc, f_maxViews, nI Rx, nI Mx, nI vc, f_commits, nI pc, nI c', a_kinds, a_lefts, a_rights, a_thirds, a_fourths, sz, A, B, N, a_pendT, a_pendA, a_pendB, a_pendN, A', B', N') (22 + nI r))) (nI tc, f_maxViews, nI Rx, nI Mx, nI vc, f_commits, nI pc, nI c', a_kinds, a_lefts, a_rights, a_thirds, a_fourths, sz, A, B, N, a_pendT, a_pendA, a_pendB, a_pendN, A', B', N') := by
      intro c' A' B' N' bd h'
      obtain ⟨C, q1, q2, q3, q4⟩ := vw_C_list h' (fun p q => by have := bd p q; omega)
      refine vw_yft q1 h'.1 hMx hRx q3 q2 q4 (fun hf => br_f (by decide) ?_) (fun nf => br_t rfl ?_)
      · have hlt : r < r0 := by
          rcases Nat.lt_or_ge r r0 with c | c
          · exact c
          · have e : r = r0 := by omega
            subst e
            exact absurd hf (hF hr)
        have bg := vw_ybag q2 q4 (fun p q => (bd p q).1) hf hRx
        rw [show (22 : Int32) + nI r = nI (22 + r) from nI_add 22 r]
        refine vw_yst (by omega) q1 h'.1 q3 bg.1 bg.2.1 (fun A2 B2 N2 sz2 fA fB fN hs HQ => nm_r (nI_1 _) (ih (r + 1) n _ A2 B2 N2 sz2 _ _ _ (vw_up NY r (vw_nz C)) (by omega) (by omega) (by omega) (vw_Y_fr hY (fun r' h' => ⟨by omega, by omega⟩) fA fB fN hs) ?_))
        intro r' hr'
        by_cases c : r' = r
        · rw [c, vw_up_s]
          exact ⟨HQ, bg.2.2, fun a b => by rw [vw_nz_v, q4, (hC r hlt).2.2]⟩
        · rw [vw_up_n c]
          exact vw_Yn_fr hYn (fun r2 h2 => by omega) fA fB fN hs r' (by omega)
      · have e : r = r0 := by
          rcases Nat.lt_or_ge r r0 with c | c
          · have g := hC r c
            exact absurd (vw_fits_of (l := NX r) g.2.2 (fun a b => by rw [← g.2.2]; exact (vw_bg_v g.1 a b).2) g.2.1) nf
          · omega
        subst e
        exact hno _ _ _ _ _ _ _ _ hr hY
    refine br_f ?_ ?_
    · rw [nI_add]; exact nI_ge hr (by omega)
    by_cases c : r < tc
    · refine vw_yct h12 (by omega) (hW.1 r c) yr.1 (fun c' A' B' N' h' => main c' A' B' N' (fun a b => by rw [vw_NF_t c]; exact hbd r c a b) (vw_C_eq h' (Nat.le_refl _) (fun p q => by rw [vw_NF_t c, hB r hr])))
    · obtain ⟨hk, ⟨l, hl, el⟩, h3⟩ := hW.2 r (by omega) hr
      have yl := hYn l (by omega)
      have xl := hC l (by omega)
      have eN : ∀ a b, vw_NF tc pc a_kinds a_lefts a_rights a_thirds a_fourths a_pendT a_pendA a_pendB a_pendN BX NX r a b = vw_F (a_kinds r) (a_thirds r) (a_fourths r) (NY l) (vw_src NY (a_rights r)) a b := by
        intro a b
        rw [vw_NF_v c, el, vw_src_n (by omega)]
        refine vw_F_eq (vw_bg_ps xl.1) (vw_bg_ps yl.2.1) (fun a b => (yl.2.2 a b).symm) (fun a b => ?_) a b
        rcases h3 with ⟨q, hq, eq⟩ | ⟨eq, _⟩
        · rw [eq, vw_src_n (by omega), vw_src_n (by omega)]; exact ((hYn q (by omega)).2.2 a b).symm
        · rw [eq, vw_src_m, vw_src_m]
      have bR : vw_bg (vw_src NY (a_rights r)) Mx := by
        rcases h3 with ⟨q, hq, eq⟩ | ⟨eq, _⟩
        · rw [eq, vw_src_n (by omega)]; exact (hYn q (by omega)).2.1
        · rw [eq, vw_src_m]; exact vw_bg_nil Mx
      refine vw_ycv (bk := 2) (l := l) (L := NY l) (R := vw_src NY (a_rights r)) (by omega) (by omega) hMx rfl hk rfl rfl el (by omega) yl.1 yl.2.1 ?_ (fun c' A' B' N' h' => main c' A' B' N' (fun a b => by rw [eN]; exact vw_F_bd hMx yl.2.1 bR a b) (vw_C_eq h' (Nat.le_refl _) eN))
      rcases h3 with ⟨q, hq, eq⟩ | ⟨eq, nk⟩
      · refine Or.inl ⟨q, by omega, eq, ?_, bR⟩
        rw [eq, vw_src_n (by omega)]; exact (hYn q (by omega)).1
      · exact Or.inr ⟨eq, nk⟩
theorem vw_y112_loop {post : Int32 → SY → Prop} {tc vc Rx Mx pc : Nat} {BX NX NY : Nat → List vw_T} (hMx : Mx ≤ 9999) (hN : tc + vc ≤ 11)
    (hok : ∀ A B N sz cs cA cB cN BY WY, vw_Y A B N sz (tc + vc) Mx BY WY → (∀ r, r < tc + vc → ∀ a b, vw_v (BY r) a b = vw_v (NX r) a b ∧ vw_v (WY r) a b = vw_v (BX r) a b) → post 0 (nI tc, f_maxViews, nI Rx, nI Mx, nI vc, f_commits + 1, 0, cs, a_kinds, a_lefts, a_rights, a_thirds, a_fourths, sz, A, B, N, a_pendT, a_pendA, a_pendB, a_pendN, cA, cB, cN)) :
    ∀ (d r n : Nat) (cs : Int32) (A B N sz cA cB cN : Nat → Int32) (BY WY : Nat → List vw_T), r + d = tc + vc → d < n → vw_Yn A B N sz (tc + vc) Mx NY NX → (∀ r', r' < tc + vc → vw_H 12 A B N sz r' (BY r') ∧ vw_bg (BY r') Mx) → (∀ r', r' < r → vw_H 12 A B N sz (11 + r') (WY r') ∧ vw_bg (WY r') Mx) → (∀ r', r' < r → ∀ a b, vw_v (BY r') a b = vw_v (NX r') a b ∧ vw_v (WY r') a b = vw_v (BX r') a b) → (∀ r', r ≤ r' → r' < tc + vc → ∀ a b, vw_v (BY r') a b = vw_v (BX r') a b) →
    wY_commit_112 post n (nI r) (nI tc) f_maxViews (nI Rx) (nI Mx) (nI vc) f_commits (nI pc) cs a_kinds a_lefts a_rights a_thirds a_fourths sz A B N a_pendT a_pendA a_pendB a_pendN cA cB cN := by
  intro d
  induction d with
  | zero =>
    intro r n cs A B N sz cA cB cN BY WY hd hn hYn h1 h2 h3 h4
    obtain ⟨n, rfl⟩ : ∃ m, n = m + 1 := ⟨n - 1, by omega⟩
    have er : r = tc + vc := by omega
    subst er
    refine br_t ?_ (nm_e (hok A B N sz cs cA cB cN BY WY (fun r hr => ⟨(h1 r hr).1, (h2 r hr).1, (h1 r hr).2, (h2 r hr).2⟩) h3))
    rw [nI_add]; exact nI_le (by omega) (by omega)
  | succ d ih =>
    intro r n cs A B N sz cA cB cN BY WY hd hn hYn h1 h2 h3 h4
    obtain ⟨n, rfl⟩ : ∃ m, n = m + 1 := ⟨n - 1, by omega⟩
    have hr : r < tc + vc := by omega
    refine br_f ?_ ?_
    · rw [nI_add]; exact nI_ge hr (by omega)
    rw [show (11 : Int32) + nI r = nI (11 + r) from nI_add 11 r, show (22 : Int32) + nI r = nI (22 + r) from nI_add 22 r]
    refine vw_ycp (by omega) (by omega) hMx (h1 r hr).1 (h1 r hr).2 (fun A2 B2 N2 sz2 cs2 cA2 cB2 cN2 W fA fB fN hs HW bW vW => ?_)
    have Yn2 := vw_Yn_fr hYn (fun r2 h2 => by omega) fA fB fN hs
    refine vw_ycp (by omega) (by omega) hMx (Yn2 r hr).1 (Yn2 r hr).2.1 (fun A3 B3 N3 sz3 cs3 cA3 cB3 cN3 Q fA3 fB3 fN3 hs3 HQ bQ vQ => nm_r (nI_1 _) (ih (r + 1) n cs3 A3 B3 N3 sz3 cA3 cB3 cN3 (vw_up BY r Q) (vw_up WY r W) (by omega) (by omega) (vw_Yn_fr Yn2 (fun r2 h2 => by omega) fA3 fB3 fN3 hs3) (fun r' hr' => ?_) (fun r' hr' => ?_) (fun r' hr' a b => ?_) (fun r' hr1 hr' a b => ?_)))
    · by_cases c : r' = r
      · rw [c, vw_up_s]; exact ⟨HQ, bQ⟩
      · rw [vw_up_n c]
        have g1 := vw_H_fr (h1 r' hr').1 (show r' ≠ 11 + r by omega) fA fB fN (hs _ (by omega))
        exact ⟨vw_H_fr g1 c fA3 fB3 fN3 (hs3 _ c), (h1 r' hr').2⟩
    · by_cases c : r' = r
      · rw [c, vw_up_s]
        exact ⟨vw_H_fr HW (by omega) fA3 fB3 fN3 (hs3 _ (by omega)), bW⟩
      · rw [vw_up_n c]
        have g0 := h2 r' (by omega)
        have g1 := vw_H_fr g0.1 (show 11 + r' ≠ 11 + r by omega) fA fB fN (hs _ (by omega))
        exact ⟨vw_H_fr g1 (by omega) fA3 fB3 fN3 (hs3 _ (by omega)), g0.2⟩
    · by_cases c : r' = r
      · rw [c, vw_up_s, vw_up_s, vQ, vW]
        exact ⟨(hYn r hr).2.2 a b, h4 r (Nat.le_refl _) hr a b⟩
      · rw [vw_up_n c, vw_up_n c]; exact h3 r' (by omega) a b
    · rw [vw_up_n (by omega)]; exact h4 r' (by omega) hr' a b
end
theorem i_vc_commit {k : Nat} {u : SX} {v : SY} (I : i_Rel k u v) (hk : k + 5 ≤ 2564) : wpX_commit (fun r u' => wpY_commit (fun r' v' => r' = r ∧ i_Rel (k + 5) u' v') v) u := by
  refine vw_el (P := fun u v => wpX_commit (fun r u' => wpY_commit (fun r' v' => r' = r ∧ i_Rel (k + 5) u' v') v) u) ?_ I
  intro tc vm Rx Mx vc pc s f_width f_relSlots f_emptyList f_accRoom f_leastInt f_accCount f_commits f_calcSize a_rowA a_rowB a_rowM a_size a_relKind a_relLeft a_relRight a_relFirst a_relSecond a_pendTable a_pendA a_pendB a_pendN a_accA a_accB a_accM b_rowA b_rowB b_rowN b_size c_A c_B c_N hR
  obtain ⟨BX, DX, BY, WY, hnum, hX, hY, hL, hE, hW, hP⟩ := id hR
  have hN := vw_num_N hnum
  obtain ⟨n1, n2, n3, n4, n5, n6⟩ := id hnum
  have h12 := hP.1
  refine br_c (fun c0 => br_t c0 ⟨rfl, vw_in hR⟩) (fun c0 => ?_)
  have HX : ∀ t, t < tc → vw_H 24 a_rowA a_rowB a_rowM a_size (s * 22 + t) (BX t) ∧ vw_so (BX t) ∧ vw_bg (BX t) Mx := fun t ht => ⟨(hX.2 t (by omega)).1, (hX.2 t (by omega)).2.2.1, (hX.2 t (by omega)).2.2.2.1⟩
  have HY : ∀ t, t < tc → vw_H 12 b_rowA b_rowB b_rowN b_size t (BY t) ∧ vw_bg (BY t) Mx := fun t ht => ⟨(hY t (by omega)).1, (hY t (by omega)).2.2.1⟩
  have eb : vw_bz a_pendTable a_pendA a_pendB a_pendN (fun t => vw_v (BY t)) pc ↔ vw_bz a_pendTable a_pendA a_pendB a_pendN (fun t => vw_v (BX t)) pc := by
    have key : ∀ e t, e < pc → a_pendTable e = nI t → t < 3 → vw_v (BY t) (a_pendA e) (a_pendB e) = vw_v (BX t) (a_pendA e) (a_pendB e) := by
      intro e t he et ht
      obtain ⟨t', ht', et'⟩ := hP.2.1 e he
      have e3 : t = t' := (nI_eq (by omega) (by omega)).mp (et.symm.trans et')
      exact (hL t (by omega) _ _).1
    refine ⟨fun z => ?_, fun z => ?_⟩
    · obtain ⟨e, t, z1, z2, z3, z4⟩ := z
      refine ⟨e, t, z1, z2, z3, ?_⟩
      dsimp only at z4 ⊢
      rw [← key e t z1 z3 z2]; exact z4
    · obtain ⟨e, t, z1, z2, z3, z4⟩ := z
      refine ⟨e, t, z1, z2, z3, ?_⟩
      dsimp only at z4 ⊢
      rw [key e t z1 z3 z2]; exact z4
  refine vw_xbz n4 n1 n6 hP HX (fun bz => br_f (by decide) ?_) (fun nb => br_t rfl ?_)
  · exact br_f c0 ⟨pc + 1, vw_ybz_loop n4 n1 hP HY (fun _ => ⟨rfl, vw_in hR⟩) (fun z => absurd (eb.mpr bz) z) pc 0 _ (by omega) (by omega) (fun z => by obtain ⟨e', t', z1, _⟩ := z; omega)⟩
  have hbd : ∀ r, r < tc → ∀ a b, 0 ≤ vw_v (BX r) a b + vw_pS a_pendTable a_pendA a_pendB a_pendN (nI r) a b pc ∧ vw_v (BX r) a b + vw_pS a_pendTable a_pendA a_pendB a_pendN (nI r) a b pc < 2147483648 := by
    intro r hr a b
    refine vw_pS_bd hP n4 (vw_bg_v (HX r hr).2.2) (fun e he ee => ?_) a b
    apply Classical.byContradiction
    intro z
    exact nb ⟨e, r, he, by omega, ee, by dsimp only; omega⟩
  have e1s : (1 : Int32) - nI s = nI (1 - s) := pk_sub (a := 1) n6
  refine nm_r (e' := nI (1 - s)) e1s (nm_r (e' := nI (tc + vc)) (nI_add _ _) ⟨tc + vc + 1, ?_⟩)
  refine vw_xcm_loop n6 n3 n4 hN hW hE hP n1 nb (fun A B M sz ac aA aB aM NX ND hX' hV => ?_) (fun A B M sz ac aA aB aM NX r0 hr0 hX' hC nf => ?_) (tc + vc) 0 _ f_accCount a_rowA a_rowB a_rowM a_size a_accA a_accB a_accM (fun _ => []) (fun _ => []) (by omega) (by omega) hX ⟨hX.1, fun r hr => absurd hr (by omega)⟩ (fun r hr => absurd hr (by omega))
  · refine br_f c0 ⟨pc + 1, vw_ybz_loop n4 n1 hP HY (fun z => absurd (eb.mp z) nb) (fun _ => ⟨tc + vc + 1, ?_⟩) pc 0 _ (by omega) (by omega) (fun z => by obtain ⟨e', t', z1, _⟩ := z; omega)⟩
    refine vw_y65_loop (r0 := tc + vc) (NX := NX) n3 n4 hN h12 hW (fun r hr a b => (hL r hr a b).1) (Nat.le_refl _) hbd (fun r hr => ⟨(hX'.2 r hr).2.2.2.1, (hX'.2 r hr).2.2.2.2.1, fun a b => (hV r hr a b).1⟩) (fun z => absurd z (by omega)) (fun _ A' B' N' sz' cs cA cB cN NY hY' hYn => ⟨tc + vc + 1, ?_⟩) (fun A' B' N' sz' cs cA cB cN z => absurd z (by omega)) (tc + vc) 0 _ f_calcSize b_rowA b_rowB b_rowN b_size c_A c_B c_N (fun _ => []) (by omega) (by omega) (by omega) hY (fun r hr => absurd hr (by omega))
    refine vw_y112_loop (NY := NY) (NX := NX) (BX := BX) n4 hN (fun A2 B2 N2 sz2 cs2 cA2 cB2 cN2 BY2 WY2 hY2 hV2 => ⟨rfl, vw_in (pc := 0) ⟨NX, ND, BY2, WY2, ⟨n1, n2, n3, n4, n5, by omega⟩, hX', hY2, fun r hr a b => ⟨(hV2 r hr a b).1, ?_⟩, fun r h1 hr a b => ?_, hW, ⟨by omega, fun e he => absurd he (by omega), fun e he => absurd he (by omega), fun e e' he => absurd he (by omega)⟩⟩⟩) (tc + vc) 0 _ cs A' B' N' sz' cA cB cN BY (fun _ => []) (by omega) (by omega) hYn (fun r hr => ⟨(hY' r hr).1, (hY' r hr).2.2.1⟩) (fun r hr => absurd hr (by omega)) (fun r hr => absurd hr (by omega)) (fun r _ hr a b => (hL r hr a b).1)
    · rw [(hV2 r hr a b).2]; exact (hV r hr a b).2
    · rw [(hV r hr a b).1, vw_NF_v (by omega)]
  · refine br_f c0 ⟨pc + 1, vw_ybz_loop n4 n1 hP HY (fun z => absurd (eb.mp z) nb) (fun _ => ⟨tc + vc + 1, ?_⟩) pc 0 _ (by omega) (by omega) (fun z => by obtain ⟨e', t', z1, _⟩ := z; omega)⟩
    exact vw_y65_loop (r0 := r0) (NX := NX) n3 n4 hN h12 hW (fun r hr a b => (hL r hr a b).1) (by omega) hbd hC (fun _ => nf) (fun z => absurd z (by omega)) (fun A' B' N' sz' cs cA cB cN _ hY' => ⟨rfl, vw_in ⟨BX, DX, BY, WY, hnum, hX', hY', hL, hE, hW, hP⟩⟩) (tc + vc) 0 _ f_calcSize b_rowA b_rowB b_rowN b_size c_A c_B c_N (fun _ => []) (by omega) (by omega) (by omega) hY (fun r hr => absurd hr (by omega))
end
section
def vw_clv (x lo hi : Int32) : Int32 := if lo ≤ x then (if x ≤ hi then x else hi) else lo
theorem vw_clv_n {x lo hi : Int32} {n : Nat} (h1 : ¬ lo < 0) (h2 : hi.toInt = n) (h3 : lo ≤ hi) : ∃ j : Nat, j ≤ n ∧ vw_clv x lo hi = nI j := by
  unfold vw_clv
  by_cases c1 : lo ≤ x
  · rw [if_pos c1]
    by_cases c2 : x ≤ hi
    · rw [if_pos c2]
      exact nI_of2 h2 (fun z => h1 (Int32.lt_of_le_of_lt c1 z)) c2
    · rw [if_neg c2]
      exact nI_of2 h2 (fun z => h1 (Int32.lt_of_le_of_lt h3 z)) (Int32.le_refl _)
  · rw [if_neg c1]
    exact nI_of2 h2 h1 h3
def vw_m1 (r : Nat) : Nat → Int32 := fun j => if j < r then -1 else 0
theorem vw_m1_0 : (fun _ => 0) = vw_m1 0 := funext (fun j => (if_neg (by omega)).symm)
theorem vw_m1_s (r : Nat) : upd (vw_m1 r) r (-1) = vw_m1 (r + 1) := by
  funext j
  unfold vw_m1
  by_cases c : j = r
  · subst c
    rw [pk_us, if_pos (by omega)]
  · rw [pk_un c]
    by_cases c2 : j < r
    · rw [if_pos c2, if_pos (by omega)]
    · rw [if_neg c2, if_neg (by omega)]
theorem vw_m0 (r : Nat) : upd (fun _ => 0) r 0 = fun _ => 0 := by
  funext j
  by_cases c : j = r
  · subst c; rw [pk_us]
  · rw [pk_un c]
section
variable {f_width f_relSlots f_emptyList f_accRoom f_leastInt f_tableCount f_maxViews f_maxRows f_maxMult f_side f_viewCount f_pendCount f_accCount f_commits : Int32} {a_rowA a_rowB a_rowM a_size a_relKind a_relLeft a_relRight a_relFirst a_relSecond a_pendTable a_pendA a_pendB a_pendN a_accA a_accB : Nat → Int32} {a_accM : Nat → Int64}
theorem vw_xcl {post : Int32 → Prop} {x lo hi : Int32} (h : post (vw_clv x lo hi)) : wpX_clamp post (f_width, f_relSlots, f_emptyList, f_accRoom, f_leastInt, f_tableCount, f_maxViews, f_maxRows, f_maxMult, f_side, f_viewCount, f_pendCount, f_accCount, f_commits, a_rowA, a_rowB, a_rowM, a_size, a_relKind, a_relLeft, a_relRight, a_relFirst, a_relSecond, a_pendTable, a_pendA, a_pendB, a_pendN, a_accA, a_accB, a_accM) x lo hi := by
  unfold vw_clv at h
  refine br_c (fun c1 => br_c (fun c2 => ?_) (fun c2 => ?_)) (fun c1 => ?_)
  · rw [if_pos c1, if_pos c2] at h; exact h
  · rw [if_pos c1, if_neg c2] at h; exact h
  · rw [if_neg c1] at h; exact h
theorem vw_xin_loop {post : SX → Prop} (hp : post (f_width, f_relSlots, f_emptyList, f_accRoom, f_leastInt, f_tableCount, f_maxViews, f_maxRows, f_maxMult, f_side, f_viewCount, f_pendCount, f_accCount, f_commits, a_rowA, a_rowB, a_rowM, a_size, fun _ => 0, vw_m1 11, vw_m1 11, a_relFirst, a_relSecond, a_pendTable, a_pendA, a_pendB, a_pendN, a_accA, a_accB, a_accM)) :
    ∀ (d r n : Nat) (kd lf rt : Nat → Int32), r + d = 11 → d < n → kd = (fun _ => 0) → lf = vw_m1 r → rt = vw_m1 r → wX_init_221 post f_width f_relSlots f_emptyList f_accRoom f_leastInt f_tableCount f_maxViews f_maxRows f_maxMult f_side f_viewCount f_pendCount f_accCount f_commits n (nI r) a_rowA a_rowB a_rowM a_size kd lf rt a_relFirst a_relSecond a_pendTable a_pendA a_pendB a_pendN a_accA a_accB a_accM := by
  intro d
  induction d with
  | zero =>
    intro r n kd lf rt hd hn e1 e2 e3
    obtain ⟨n, rfl⟩ : ∃ m, n = m + 1 := ⟨n - 1, by omega⟩
    have er : r = 11 := by omega
    subst er e1 e2 e3
    exact br_t (nI_le (a := 11) (by omega) (by omega)) hp
  | succ d ih =>
    intro r n kd lf rt hd hn e1 e2 e3
    obtain ⟨n, rfl⟩ : ∃ m, n = m + 1 := ⟨n - 1, by omega⟩
    subst e1 e2 e3
    have hi : vp_in (nI r) 11 := vp_in_nI (by omega) (by decide)
    have ec : (nI r).toNatClampNeg = r := nI_clamp (by omega)
    exact br_f (nI_ge (b := 11) (by omega) (by decide)) ⟨hi, nm_e ⟨hi, nm_e ⟨hi, nm_e (nm_r (nI_1 _) (ih (r + 1) n _ _ _ (by omega) (by omega) (by rw [ec]; exact vw_m0 r) (by rw [ec]; exact vw_m1_s r) (by rw [ec]; exact vw_m1_s r)))⟩⟩⟩
end
section
variable {f_tables f_maxViews f_maxRows f_maxMult f_views f_commits f_pendCount f_calcSize : Int32} {a_kinds a_lefts a_rights a_thirds a_fourths a_size a_rowA a_rowB a_rowN a_pendT a_pendA a_pendB a_pendN a_calcA a_calcB a_calcN : Nat → Int32}
theorem vw_ycl {post : Int32 → Prop} {x lo hi : Int32} (h : post (vw_clv x lo hi)) : wpY_clamp post (f_tables, f_maxViews, f_maxRows, f_maxMult, f_views, f_commits, f_pendCount, f_calcSize, a_kinds, a_lefts, a_rights, a_thirds, a_fourths, a_size, a_rowA, a_rowB, a_rowN, a_pendT, a_pendA, a_pendB, a_pendN, a_calcA, a_calcB, a_calcN) x lo hi := by
  unfold vw_clv at h
  refine br_c (fun c1 => br_c (fun c2 => ?_) (fun c2 => ?_)) (fun c1 => ?_)
  · rw [if_pos c1, if_pos c2] at h; exact h
  · rw [if_pos c1, if_neg c2] at h; exact h
  · rw [if_neg c1] at h; exact h
theorem vw_yin_loop {post : SY → Prop} (hp : post (f_tables, f_maxViews, f_maxRows, f_maxMult, f_views, f_commits, f_pendCount, f_calcSize, a_kinds, vw_m1 11, vw_m1 11, a_thirds, a_fourths, a_size, a_rowA, a_rowB, a_rowN, a_pendT, a_pendA, a_pendB, a_pendN, a_calcA, a_calcB, a_calcN)) :
    ∀ (d r n : Nat) (lf rt : Nat → Int32), r + d = 11 → d < n → lf = vw_m1 r → rt = vw_m1 r → wY_init_190 post f_tables f_maxViews f_maxRows f_maxMult f_views f_commits f_pendCount f_calcSize n (nI r) a_kinds lf rt a_thirds a_fourths a_size a_rowA a_rowB a_rowN a_pendT a_pendA a_pendB a_pendN a_calcA a_calcB a_calcN := by
  intro d
  induction d with
  | zero =>
    intro r n lf rt hd hn e2 e3
    obtain ⟨n, rfl⟩ : ∃ m, n = m + 1 := ⟨n - 1, by omega⟩
    have er : r = 11 := by omega
    subst er e2 e3
    exact br_t (nI_le (a := 11) (by omega) (by omega)) hp
  | succ d ih =>
    intro r n lf rt hd hn e2 e3
    obtain ⟨n, rfl⟩ : ∃ m, n = m + 1 := ⟨n - 1, by omega⟩
    subst e2 e3
    have hi : vp_in (nI r) 11 := vp_in_nI (by omega) (by decide)
    have ec : (nI r).toNatClampNeg = r := nI_clamp (by omega)
    exact br_f (nI_ge (b := 11) (by omega) (by decide)) ⟨hi, nm_e ⟨hi, nm_e (nm_r (nI_1 _) (ih (r + 1) n _ _ (by omega) (by omega) (by rw [ec]; exact vw_m1_s r) (by rw [ec]; exact vw_m1_s r)))⟩⟩
end
theorem i_vc0 (k0 : Int32) (k1 : Int32) (k2 : Int32) (k3 : Int32) : wpX_init (fun u => wpY_init (fun v => i_Rel 4 u v) k0 k1 k2 k3) k0 k1 k2 k3 := by
  obtain ⟨tc, h0, e0⟩ := vw_clv_n (x := k0) (lo := 1) (hi := 3) (n := 3) (by decide) (by decide) (by decide)
  obtain ⟨vm, h1, e1⟩ := vw_clv_n (x := k1) (lo := 1) (hi := 8) (n := 8) (by decide) (by decide) (by decide)
  obtain ⟨Rx, h2, e2⟩ := vw_clv_n (x := k2) (lo := 2) (hi := 12) (n := 12) (by decide) (by decide) (by decide)
  obtain ⟨Mx, h3, e3⟩ := vw_clv_n (x := k3) (lo := 1) (hi := 9999) (n := 9999) (by decide) (by decide) (by decide)
  unfold wpX_init wpY_init
  refine vw_xcl (vw_xcl (vw_xcl (vw_xcl ?_)))
  rw [e0, e1, e2, e3]
  refine ⟨12, vw_xin_loop ?_ 11 0 12 _ _ _ rfl (by omega) rfl vw_m1_0 vw_m1_0⟩
  refine vw_ycl (vw_ycl (vw_ycl (vw_ycl ?_)))
  rw [e0, e1, e2, e3]
  refine ⟨12, vw_yin_loop ?_ 11 0 12 _ _ rfl (by omega) vw_m1_0 vw_m1_0⟩
  refine vw_in (tc := tc) (vm := vm) (Rx := Rx) (Mx := Mx) (vc := 0) (pc := 0) (s := 0) ⟨fun _ => [], fun _ => [], fun _ => [], fun _ => [], ⟨h0, h1, h2, h3, by omega, by omega⟩, ⟨vw_H_nil rfl, fun r hr => ⟨vw_H_nil rfl, vw_H_nil rfl, List.Pairwise.nil, vw_bg_nil Mx, by simp, List.Pairwise.nil, fun x hx => absurd hx List.not_mem_nil⟩⟩, fun r hr => ⟨vw_H_nil rfl, vw_H_nil rfl, vw_bg_nil Mx, vw_bg_nil Mx⟩, fun r hr a b => ⟨rfl, rfl⟩, fun r h1 hr => absurd hr (by omega), ⟨fun r hr => rfl, fun r h1 hr => absurd hr (by omega)⟩, ⟨by omega, fun e he => absurd he (by omega), fun e he => absurd he (by omega), fun e e' he => absurd he (by omega)⟩⟩
end

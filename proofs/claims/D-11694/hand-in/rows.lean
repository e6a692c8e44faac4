section
/-- the field of 997 elements, as the arrays hold it -/
abbrev ww_F : Type := Fin 997
def ww_z (x : ww_F) : Int32 := nI x.val
theorem ww_mulb (b c : ww_F) : b.val * c.val ≤ 996 * 996 := Nat.mul_le_mul (by have := b.isLt; omega) (by have := c.isLt; omega)
theorem ww_inj {x y : ww_F} (h : ww_z x = ww_z y) : x = y := by
  have hx := x.isLt
  have hy := y.isLt
  exact Fin.ext ((nI_eq (by omega) (by omega)).mp h)
theorem ww_iff (x y : ww_F) : ww_z x = ww_z y ↔ x = y := ⟨ww_inj, fun h => by rw [h]⟩
theorem ww_0 : ww_z 0 = 0 := rfl
theorem ww_1 : ww_z 1 = 1 := rfl
theorem ww_iff0 (x : ww_F) : ww_z x = 0 ↔ x = 0 := ⟨fun h => ww_inj (y := 0) h, fun h => by rw [h]; rfl⟩
theorem ww_rem {n : Nat} (h : n < 2 ^ 31) {x : ww_F} (hx : x.val = n % 997) : nI n - nI n / 997 * 997 = ww_z x := by
  have e := pk_rem (a := n) (d := 997) h (by decide) (by decide)
  rw [show nI 997 = (997 : Int32) from rfl] at e
  rw [e, ww_z, hx]
theorem ww_mul (b c : ww_F) : (ww_z b * ww_z c) - (ww_z b * ww_z c) / 997 * 997 = ww_z (b * c) := by
  have h := ww_mulb b c
  have e : ww_z b * ww_z c = nI (b.val * c.val) := by
    unfold ww_z
    rw [pk_mul]
  rw [e]
  exact ww_rem (by omega) (Fin.val_mul b c)
theorem ww_mac (a b c : ww_F) : (ww_z a + ww_z b * ww_z c) - (ww_z a + ww_z b * ww_z c) / 997 * 997 = ww_z (a + b * c) := by
  have h := ww_mulb b c
  have ha := a.isLt
  have e : ww_z a + ww_z b * ww_z c = nI (a.val + b.val * c.val) := by
    unfold ww_z
    rw [pk_mul, nI_add]
  rw [e]
  refine ww_rem (by omega) ?_
  rw [Fin.val_add, Fin.val_mul, Nat.add_mod_mod]
theorem ww_mmac (a b c d : ww_F) : (ww_z a * ww_z b + ww_z c * ww_z d) - (ww_z a * ww_z b + ww_z c * ww_z d) / 997 * 997 = ww_z (a * b + c * d) := by
  have h := ww_mulb a b
  have h2 := ww_mulb c d
  have e : ww_z a * ww_z b + ww_z c * ww_z d = nI (a.val * b.val + c.val * d.val) := by
    unfold ww_z
    rw [pk_mul, pk_mul, nI_add]
  rw [e]
  refine ww_rem (by omega) ?_
  rw [Fin.val_add, Fin.val_mul, Fin.val_mul, Nat.add_mod_mod, Nat.mod_add_mod]
theorem ww_add (a b : ww_F) : (ww_z a + ww_z b) - (ww_z a + ww_z b) / 997 * 997 = ww_z (a + b) := by
  have ha := a.isLt
  have hb := b.isLt
  have e : ww_z a + ww_z b = nI (a.val + b.val) := by
    unfold ww_z
    rw [nI_add]
  rw [e]
  refine ww_rem (by omega) ?_
  rw [Fin.val_add]
theorem ww_mac0 (a : ww_F) (x : Int32) : (ww_z a + ww_z 0 * x) - (ww_z a + ww_z 0 * x) / 997 * 997 = ww_z a := by
  have ha := a.isLt
  have e : ww_z a + ww_z 0 * x = nI a.val := by
    rw [ww_0, Int32.zero_mul, Int32.add_zero]
    rfl
  rw [e]
  exact ww_rem (by omega) (by omega)
theorem ww_mul0 (x : Int32) : (x * ww_z 0) - (x * ww_z 0) / 997 * 997 = ww_z 0 := by
  have e : x * ww_z 0 = nI 0 := by
    rw [ww_0, Int32.mul_zero]
    rfl
  rw [e]
  exact ww_rem (by omega) rfl
theorem ww_subN (x p m r : Nat) (h : p + m = 997 * r) (hx : x < 997) : (x + p) % 997 = ((997 - m % 997) + x) % 997 := by omega
theorem ww_msub (x f r : ww_F) : (ww_z x + (997 - ww_z f) * ww_z r) - (ww_z x + (997 - ww_z f) * ww_z r) / 997 * 997 = ww_z (x - f * r) := by
  have hf := f.isLt
  have hx := x.isLt
  have hr := r.isLt
  have hb : (997 - f.val) * r.val ≤ 997 * 996 := Nat.mul_le_mul (by omega) (by omega)
  have e : ww_z x + (997 - ww_z f) * ww_z r = nI (x.val + (997 - f.val) * r.val) := by
    unfold ww_z
    rw [show (997 : Int32) = nI 997 from rfl, pk_sub (by omega), pk_mul, nI_add]
  rw [e]
  refine ww_rem (by omega) ?_
  have hs : (997 - f.val) * r.val + f.val * r.val = 997 * r.val := by
    rw [← Nat.add_mul]
    congr 1
    omega
  rw [Fin.sub_def]
  show ((997 - (f * r).val) + x.val) % 997 = _
  rw [Fin.val_mul]
  exact (ww_subN x.val _ _ r.val hs hx).symm
theorem ww_macs (x v s t : ww_F) : (ww_z x + ww_z v * (ww_z s + ww_z t)) - (ww_z x + ww_z v * (ww_z s + ww_z t)) / 997 * 997 = ww_z (x + v * (s + t)) := by
  have hx := x.isLt
  have hv := v.isLt
  have hs := s.isLt
  have ht := t.isLt
  have hb : v.val * (s.val + t.val) ≤ 996 * 1992 := Nat.mul_le_mul (by omega) (by omega)
  have e : ww_z x + ww_z v * (ww_z s + ww_z t) = nI (x.val + v.val * (s.val + t.val)) := by
    unfold ww_z
    rw [nI_add, pk_mul, nI_add]
  rw [e]
  refine ww_rem (by omega) ?_
  rw [Fin.val_add, Fin.val_mul, Fin.val_add, Nat.add_mod_mod, Nat.add_mod, Nat.mul_mod, Nat.mod_mod, ← Nat.mul_mod, ← Nat.add_mod]
/-- the inverse that the class takes: the power 995 -/
def ww_inv (x : ww_F) : ww_F := ⟨x.val ^ 995 % 997, Nat.mod_lt _ (by decide)⟩
theorem ww_inv_n : ∀ n, n < 997 → n ≠ 0 → n * (n ^ 995 % 997) % 997 = 1 := by decide +kernel
theorem ww_inv_ok {x : ww_F} (h : x ≠ 0) : x * ww_inv x = 1 := by
  apply Fin.ext
  rw [Fin.val_mul]
  exact ww_inv_n x.val x.isLt (fun e => h (Fin.ext e))
/-- a letter's share of a code: two bits -/
def ww_p (c : Int32) (i : Nat) : ww_F := ⟨(c >>> ((2 * nI i) &&& 31)).toBitVec.toNat % 4, by omega⟩
theorem ww_part (c : Int32) (i : Nat) : (c >>> ((2 * nI i) &&& 31)) &&& 3 = ww_z (ww_p c i) := pk_and _ 2 (m := 3) (by decide)
theorem ww_partx {post : Int32 → Prop} {c x : Int32} (i : Nat) (hx : x = nI i) (h : post (ww_z (ww_p c i))) : wpL_part post () c x := by
  subst hx
  show post ((c >>> ((2 * nI i) &&& 31)) &&& 3)
  rw [ww_part]
  exact h
theorem ww_modu {post : Int32 → Prop} {x : ww_F} (h : post (ww_z x)) : wpX_modulo post () (ww_z x) := by
  have hx := x.isLt
  have e : ww_z x - ww_z x / 997 * 997 = ww_z x := ww_rem (n := x.val) (by omega) (by omega)
  exact ⟨by decide, nm_r e (br_t (nI_pos' (by omega)) h)⟩
theorem ww_good {post : Int32 → Prop} {a : Nat} (ha : a < 3) (h : post 1) : wpX_isGood post () (nI a) :=
  pk_lt a 0 (fun z => absurd z (by omega)) (fun _ => pk_lt 2 a (fun z => absurd z (by omega)) (fun _ => h))
theorem ww_i4 (a q : Nat) : 4 * nI a + nI q = nI (4 * a + q) := by rw [show (4 : Int32) = nI 4 from rfl, pk_mul, nI_add]
theorem ww_i12 (a q : Nat) : 12 * nI a + nI q = nI (12 * a + q) := by rw [show (12 : Int32) = nI 12 from rfl, pk_mul, nI_add]
theorem ww_i32 (a q : Nat) : 32 * nI a + nI q = nI (32 * a + q) := by rw [show (32 : Int32) = nI 32 from rfl, pk_mul, nI_add]
theorem ww_i2 (a q : Nat) : 2 * nI a + nI q = nI (2 * a + q) := by rw [show (2 : Int32) = nI 2 from rfl, pk_mul, nI_add]
theorem ww_i8 (a q : Nat) : 8 * nI a + nI q = nI (8 * a + q) := by rw [show (8 : Int32) = nI 8 from rfl, pk_mul, nI_add]
theorem ww_iad (a c p q : Nat) : ((32 * nI a + 16 * nI c) + 4 * nI p) + nI q = nI (32 * a + 16 * c + 4 * p + q) := by
  rw [show (32 : Int32) = nI 32 from rfl, show (16 : Int32) = nI 16 from rfl, show (4 : Int32) = nI 4 from rfl, pk_mul, pk_mul, pk_mul, nI_add, nI_add, nI_add]
theorem ww_fill {f s : Nat → Int32} {i k : Nat} {x : Int32} (hk : k = i) (h : ∀ j, j < i → s j = f j) (hx : x = f i) : ∀ j, j < i + 1 → upd s k x j = f j := by
  intro j hj
  rw [hk]
  by_cases e : j = i
  · rw [e, pk_us, hx]
  · rw [pk_un e]
    exact h j (by omega)
end
section
/-! rows of numbers, and what is spanned by rows -/
abbrev ww_V : Type := Nat → ww_F
def ww_lin (P : ww_V → Prop) : Prop := P (fun _ => 0) ∧ ∀ (a : ww_F) (u v : ww_V), P u → P v → P (fun k => a * u k + v k)
def ww_sp (S : ww_V → Prop) (v : ww_V) : Prop := ∀ P : ww_V → Prop, ww_lin P → (∀ u, S u → P u) → P v
theorem ww_sp_in {S : ww_V → Prop} {u : ww_V} (h : S u) : ww_sp S u := fun _ _ hS => hS u h
theorem ww_sp_lin (S : ww_V → Prop) : ww_lin (ww_sp S) := ⟨fun _ hP _ => hP.1, fun a u v hu hv P hP hS => hP.2 a u v (hu P hP hS) (hv P hP hS)⟩
theorem ww_sp_le {S T : ww_V → Prop} (h : ∀ u, S u → ww_sp T u) {v : ww_V} (hv : ww_sp S v) : ww_sp T v := fun P hP hT => hv P hP (fun u hu => h u hu P hP hT)
theorem ww_sp_mono {S T : ww_V → Prop} (h : ∀ u, S u → T u) {v : ww_V} (hv : ww_sp S v) : ww_sp T v := ww_sp_le (fun u hu => ww_sp_in (h u hu)) hv
theorem ww_smul {P : ww_V → Prop} (hP : ww_lin P) (a : ww_F) {u : ww_V} (hu : P u) : P (fun k => a * u k) := by
  have h : P (fun k => a * u k + 0) := hP.2 a u _ hu hP.1
  rw [show (fun k => a * u k + 0) = (fun k => a * u k) from funext fun k => by grind] at h
  exact h
/-- the same, up to the places' values -/
theorem ww_comb {P : ww_V → Prop} (hP : ww_lin P) (a : ww_F) {u v w : ww_V} (hu : P u) (hv : P v) (e : ∀ k, w k = a * u k + v k) : P w := by
  rw [show w = (fun k => a * u k + v k) from funext e]
  exact hP.2 a u v hu hv
/-- one pass of the reduction by n rows -/
def ww_red (R : Nat → ww_V) (pv : Nat → Nat) : Nat → ww_V → ww_V
  | 0, v => v
  | n + 1, v => fun k => ww_red R pv n v k - ww_red R pv n v (pv n) * R n k
def ww_tri (R : Nat → ww_V) (pv : Nat → Nat) (n : Nat) : Prop := ∀ b, b < n → R b (pv b) = 1 ∧ ∀ c, c < b → R b (pv c) = 0
theorem ww_red_s (R : Nat → ww_V) (pv : Nat → Nat) (n : Nat) (v : ww_V) (k : Nat) : ww_red R pv (n + 1) v k = ww_red R pv n v k - ww_red R pv n v (pv n) * R n k := rfl
theorem ww_red_lin (R : Nat → ww_V) (pv : Nat → Nat) (n : Nat) (a : ww_F) (u v : ww_V) : ∀ k, ww_red R pv n (fun k => a * u k + v k) k = a * ww_red R pv n u k + ww_red R pv n v k := by
  induction n with
  | zero => intro k; rfl
  | succ n ih =>
    intro k
    rw [ww_red_s, ww_red_s, ww_red_s, ih k, ih (pv n)]
    generalize ww_red R pv n u k = x1
    generalize ww_red R pv n v k = x2
    generalize ww_red R pv n u (pv n) = x3
    generalize ww_red R pv n v (pv n) = x4
    generalize R n k = x5
    grind
theorem ww_red_0 (R : Nat → ww_V) (pv : Nat → Nat) (n : Nat) : ∀ k, ww_red R pv n (fun _ => 0) k = 0 := by
  induction n with
  | zero => intro k; rfl
  | succ n ih =>
    intro k
    rw [ww_red_s, ih k, ih (pv n)]
    generalize R n k = x5
    grind
theorem ww_red_piv {R : Nat → ww_V} {pv : Nat → Nat} {n : Nat} (h : ww_tri R pv n) (v : ww_V) : ∀ m, m ≤ n → ∀ b, b < m → ww_red R pv m v (pv b) = 0 := by
  intro m
  induction m with
  | zero => intro _ b hb; omega
  | succ m ih =>
    intro hm b hb
    rw [ww_red_s]
    have hh := h m (by omega)
    by_cases e : b = m
    · rw [e, hh.1]
      generalize ww_red R pv m v (pv m) = x
      grind
    · rw [ih (by omega) b (by omega), hh.2 b (by omega)]
      generalize ww_red R pv m v (pv m) = x
      grind
theorem ww_red_P {P : ww_V → Prop} (hP : ww_lin P) {R : Nat → ww_V} {pv : Nat → Nat} {n : Nat} (hR : ∀ b, b < n → P (R b)) (v : ww_V) : ∀ m, m ≤ n → (P (ww_red R pv m v) ↔ P v) := by
  intro m
  induction m with
  | zero => intro _; exact Iff.rfl
  | succ m ih =>
    intro hm
    rw [← ih (by omega)]
    constructor
    · intro h
      refine ww_comb hP (ww_red R pv m v (pv m)) (hR m (by omega)) h (fun k => ?_)
      rw [ww_red_s]
      generalize ww_red R pv m v k = x1
      generalize ww_red R pv m v (pv m) = x2
      generalize R m k = x3
      grind
    · intro h
      refine ww_comb hP (0 - ww_red R pv m v (pv m)) (hR m (by omega)) h (fun k => ?_)
      rw [ww_red_s]
      generalize ww_red R pv m v k = x1
      generalize ww_red R pv m v (pv m) = x2
      generalize R m k = x3
      grind
theorem ww_red_R {R : Nat → ww_V} {pv : Nat → Nat} {n : Nat} (h : ww_tri R pv n) {b : Nat} (hb : b < n) : ∀ m, m ≤ n → (m ≤ b → ∀ k, ww_red R pv m (R b) k = R b k) ∧ (b < m → ∀ k, ww_red R pv m (R b) k = 0) := by
  intro m
  induction m with
  | zero => exact fun _ => ⟨fun _ k => rfl, fun hh => absurd hh (by omega)⟩
  | succ m ih =>
    intro hm
    have i := ih (by omega)
    have hh := h b hb
    constructor
    · intro hmb k
      rw [ww_red_s, i.1 (by omega) k, i.1 (by omega) (pv m), hh.2 m (by omega)]
      generalize R b k = x1
      generalize R m k = x2
      grind
    · intro hbm k
      by_cases e : b = m
      · have i1 := i.1 (by omega)
        rw [ww_red_s, i1 k, i1 (pv m), ← e, hh.1]
        generalize R b k = x1
        grind
      · have i2 := i.2 (by omega)
        rw [ww_red_s, i2 k, i2 (pv m)]
        generalize R m k = x2
        grind
/-- the rows of a family, the first n -/
def ww_fam (K : Nat → ww_V) (n : Nat) (u : ww_V) : Prop := ∃ b, b < n ∧ u = K b
theorem ww_fam_in {K : Nat → ww_V} {n b : Nat} (h : b < n) : ww_sp (ww_fam K n) (K b) := ww_sp_in ⟨b, h, rfl⟩
theorem ww_fam_le {K K' : Nat → ww_V} {n n' : Nat} (h : n ≤ n') (e : ∀ b, b < n → K' b = K b) {v : ww_V} (hv : ww_sp (ww_fam K n) v) : ww_sp (ww_fam K' n') v :=
  ww_sp_le (fun _ hu => by
    obtain ⟨b, hb, rfl⟩ := hu
    rw [← e b hb]
    exact ww_fam_in (by omega)) hv
theorem ww_fam_of {K : Nat → ww_V} {n : Nat} {S : ww_V → Prop} (h : ∀ b, b < n → ww_sp S (K b)) {v : ww_V} (hv : ww_sp (ww_fam K n) v) : ww_sp S v :=
  ww_sp_le (fun _ hu => by
    obtain ⟨b, hb, rfl⟩ := hu
    exact h b hb) hv
/-- what is spanned reduces to nothing -/
theorem ww_red_sp {R : Nat → ww_V} {pv : Nat → Nat} {n : Nat} (h : ww_tri R pv n) {v : ww_V} (hv : ww_sp (ww_fam R n) v) : ∀ k, ww_red R pv n v k = 0 := by
  refine hv (fun u => ∀ k, ww_red R pv n u k = 0) ⟨ww_red_0 R pv n, fun a u v hu hv k => ?_⟩ (fun u hu => ?_)
  · rw [ww_red_lin, hu k, hv k]
    grind
  · obtain ⟨b, hb, rfl⟩ := hu
    exact (ww_red_R h hb n (Nat.le_refl n)).2 hb
/-- what reduces to nothing is spanned -/
theorem ww_red_in {R : Nat → ww_V} {pv : Nat → Nat} {n : Nat} {v : ww_V} (hv : ∀ k, ww_red R pv n v k = 0) : ww_sp (ww_fam R n) v := by
  refine (ww_red_P (ww_sp_lin (ww_fam R n)) (pv := pv) (fun b hb => ww_fam_in hb) v n (Nat.le_refl n)).mp ?_
  rw [show ww_red R pv n v = (fun _ => 0) from funext hv]
  exact (ww_sp_lin (ww_fam R n)).1
theorem ww_pig : ∀ (m n : Nat) (f : Nat → Nat), (∀ i, i < n → f i < m) → (∀ i, i < n → ∀ j, j < i → f i ≠ f j) → n ≤ m := by
  intro m
  induction m with
  | zero =>
    intro n f h _
    rcases Nat.eq_zero_or_pos n with e | e
    · omega
    · have := h 0 e
      omega
  | succ m ih =>
    intro n f h hi
    rcases Nat.eq_zero_or_pos n with e | e
    · omega
    · have hne : ∀ i, i < n - 1 → f (n - 1) ≠ f i := fun i hh => hi (n - 1) (by omega) i hh
      have ht := h (n - 1) (by omega)
      have := ih (n - 1) (fun i => if f i = m then f (n - 1) else f i) (fun i hh => by
        have h1 := h i (by omega)
        have h2 := hne i hh
        show (if f i = m then f (n - 1) else f i) < m
        split <;> omega) (fun i hh j hj => by
        have h1 := hi i (by omega) j hj
        have h2 := hne i hh
        have h3 := hne j (by omega)
        show (if f i = m then f (n - 1) else f i) ≠ (if f j = m then f (n - 1) else f j)
        split <;> split <;> omega)
      omega
/-- the places where rows of d automata of two states each may differ from 0 -/
def ww_D (d k : Nat) : Prop := k < 4 * d ∧ k % 4 < 2
def ww_su (d : Nat) (v : ww_V) : Prop := ∀ k, ¬ ww_D d k → v k = 0
theorem ww_su_lin (d : Nat) : ww_lin (ww_su d) := ⟨fun _ _ => rfl, fun a u v hu hv k hk => by show a * u k + v k = 0; rw [hu k hk, hv k hk]; grind⟩
theorem ww_su_eq {d : Nat} {u v : ww_V} (hd : d ≤ 3) (hu : ww_su d u) (hv : ww_su d v) (h : ∀ k, k < 12 → u k = v k) : u = v := by
  funext k
  by_cases e : k < 12
  · exact h k e
  · rw [hu k (fun z => by have := z.1; omega), hv k (fun z => by have := z.1; omega)]
/-- the basis: rows that are triangular at their pivots -/
def ww_bas (d n : Nat) (R : Nat → ww_V) (pv : Nat → Nat) (a9 a10 : Nat → Int32) : Prop := ww_tri R pv n ∧ ∀ b, b < n → (∀ k, k < 12 → a9 (12 * b + k) = ww_z (R b k)) ∧ a10 b = nI (pv b) ∧ pv b < 12 ∧ ww_su d (R b)
theorem ww_10 : (1 : ww_F) ≠ 0 := by decide
theorem ww_bas_D {d n : Nat} {R : Nat → ww_V} {pv : Nat → Nat} {a9 a10 : Nat → Int32} (h : ww_bas d n R pv a9 a10) {b : Nat} (hb : b < n) : pv b < 4 * d ∧ pv b % 4 < 2 := by
  by_cases e : ww_D d (pv b)
  · exact e
  · exact absurd ((h.1 b hb).1.symm.trans ((h.2 b hb).2.2.2 _ e)) ww_10
theorem ww_bas_le {d n : Nat} {R : Nat → ww_V} {pv : Nat → Nat} {a9 a10 : Nat → Int32} (h : ww_bas d n R pv a9 a10) : n ≤ 2 * d := by
  refine ww_pig (2 * d) n (fun b => 2 * (pv b / 4) + pv b % 4) (fun b hb => ?_) (fun b hb c hc he => ?_)
  · have := ww_bas_D h hb
    show 2 * (pv b / 4) + pv b % 4 < 2 * d
    omega
  · have h1 := ww_bas_D h hb
    have h2 := ww_bas_D h (show c < n by omega)
    have he' : 2 * (pv b / 4) + pv b % 4 = 2 * (pv c / 4) + pv c % 4 := he
    have e : pv b = pv c := by omega
    have h3 := (h.1 b hb).2 c hc
    rw [← e] at h3
    exact ww_10 ((h.1 b hb).1.symm.trans h3)
end
section
/-! one automaton of two states: its numbers P 0 .. P 11; the row and the weight of the word of code n -/
def ww_r (P : Nat → ww_F) (n : Nat) (q : Nat) : ww_F := if n ≤ 1 then P q else ww_r P (n / 2) 0 * P (4 + 4 * (n % 2) + q) + ww_r P (n / 2) 1 * P (4 + 4 * (n % 2) + 2 + q)
termination_by n
decreasing_by all_goals omega
theorem ww_r_1 (P : Nat → ww_F) (q : Nat) : ww_r P 1 q = P q := by
  rw [ww_r]
  exact if_pos (by omega)
theorem ww_r_s (P : Nat → ww_F) {n c : Nat} (hn : 1 ≤ n) (hc : c < 2) (q : Nat) : ww_r P (2 * n + c) q = ww_r P n 0 * P (4 + 4 * c + q) + ww_r P n 1 * P (4 + 4 * c + 2 + q) := by
  have h1 : (2 * n + c) / 2 = n := by omega
  have h2 : (2 * n + c) % 2 = c := by omega
  conv => lhs; rw [ww_r]
  rw [if_neg (by omega), h1, h2]
def ww_w (P : Nat → ww_F) (n : Nat) : ww_F := ww_r P n 0 * P 2 + ww_r P n 1 * P 3
/-! d automata side by side -/
def ww_s0 (d : Nat) (Q : Nat → Nat → ww_F) (sg : Nat → ww_F) : ww_V := fun k => if k < 4 * d ∧ k % 4 < 2 then Q (k / 4) (k % 4) * sg (k / 4) else 0
def ww_A (d : Nat) (Q : Nat → Nat → ww_F) (c : Nat) (v : ww_V) : ww_V := fun k => if k < 4 * d ∧ k % 4 < 2 then v (4 * (k / 4)) * Q (k / 4) (4 + 4 * c + k % 4) + v (4 * (k / 4) + 1) * Q (k / 4) (4 + 4 * c + 2 + k % 4) else 0
def ww_rw (d : Nat) (Q : Nat → Nat → ww_F) (sg : Nat → ww_F) (n : Nat) : ww_V := fun k => if k < 4 * d ∧ k % 4 < 2 then ww_r (Q (k / 4)) n (k % 4) * sg (k / 4) else 0
def ww_ev (Q : Nat → Nat → ww_F) (v : ww_V) : Nat → ww_F
  | 0 => 0
  | k + 1 => ww_ev Q v k + (if k % 4 < 2 then v k * Q (k / 4) (2 + k % 4) else 0)
def ww_E (d : Nat) (Q : Nat → Nat → ww_F) (v : ww_V) : ww_F := ww_ev Q v (4 * d)
theorem ww_rw_1 (d : Nat) (Q : Nat → Nat → ww_F) (sg : Nat → ww_F) : ww_rw d Q sg 1 = ww_s0 d Q sg := by
  funext k
  show (if k < 4 * d ∧ k % 4 < 2 then ww_r (Q (k / 4)) 1 (k % 4) * sg (k / 4) else 0) = (if k < 4 * d ∧ k % 4 < 2 then Q (k / 4) (k % 4) * sg (k / 4) else 0)
  rw [ww_r_1]
theorem ww_rw_s (d : Nat) (Q : Nat → Nat → ww_F) (sg : Nat → ww_F) {n c : Nat} (hn : 1 ≤ n) (hc : c < 2) : ww_rw d Q sg (2 * n + c) = ww_A d Q c (ww_rw d Q sg n) := by
  funext k
  by_cases h : k < 4 * d ∧ k % 4 < 2
  · have e0 : ww_rw d Q sg n (4 * (k / 4)) = ww_r (Q (k / 4)) n 0 * sg (k / 4) := by
      unfold ww_rw
      rw [if_pos (by omega), show 4 * (k / 4) / 4 = k / 4 by omega, show 4 * (k / 4) % 4 = 0 by omega]
    have e1 : ww_rw d Q sg n (4 * (k / 4) + 1) = ww_r (Q (k / 4)) n 1 * sg (k / 4) := by
      unfold ww_rw
      rw [if_pos (by omega), show (4 * (k / 4) + 1) / 4 = k / 4 by omega, show (4 * (k / 4) + 1) % 4 = 1 by omega]
    unfold ww_A
    rw [if_pos h, e0, e1]
    unfold ww_rw
    rw [if_pos h, ww_r_s _ hn hc]
    generalize ww_r (Q (k / 4)) n 0 = x0
    generalize ww_r (Q (k / 4)) n 1 = x1
    generalize Q (k / 4) (4 + 4 * c + k % 4) = x2
    generalize Q (k / 4) (4 + 4 * c + 2 + k % 4) = x3
    generalize sg (k / 4) = x4
    grind
  · unfold ww_A ww_rw
    rw [if_neg h, if_neg h]
theorem ww_s0_su (d : Nat) (Q : Nat → Nat → ww_F) (sg : Nat → ww_F) : ww_su d (ww_s0 d Q sg) := fun _ hk => if_neg hk
theorem ww_A_su (d : Nat) (Q : Nat → Nat → ww_F) (c : Nat) (v : ww_V) : ww_su d (ww_A d Q c v) := fun _ hk => if_neg hk
theorem ww_rw_su (d : Nat) (Q : Nat → Nat → ww_F) (sg : Nat → ww_F) (n : Nat) : ww_su d (ww_rw d Q sg n) := fun _ hk => if_neg hk
theorem ww_A_lin (d : Nat) (Q : Nat → Nat → ww_F) (c : Nat) {P : ww_V → Prop} (hP : ww_lin P) : ww_lin (fun v => P (ww_A d Q c v)) := by
  constructor
  · have e : ww_A d Q c (fun _ => 0) = (fun _ => 0) := by
      funext k
      show (if k < 4 * d ∧ k % 4 < 2 then 0 * Q (k / 4) (4 + 4 * c + k % 4) + 0 * Q (k / 4) (4 + 4 * c + 2 + k % 4) else 0) = (0 : ww_F)
      generalize Q (k / 4) (4 + 4 * c + k % 4) = x2
      generalize Q (k / 4) (4 + 4 * c + 2 + k % 4) = x3
      split
      · grind
      · rfl
    show P (ww_A d Q c (fun _ => 0))
    rw [e]
    exact hP.1
  · intro a u v hu hv
    refine ww_comb hP a hu hv (fun k => ?_)
    unfold ww_A
    dsimp only
    by_cases h : k < 4 * d ∧ k % 4 < 2
    · rw [if_pos h, if_pos h, if_pos h]
      generalize u (4 * (k / 4)) = x0
      generalize v (4 * (k / 4)) = x1
      generalize u (4 * (k / 4) + 1) = x4
      generalize v (4 * (k / 4) + 1) = x5
      generalize Q (k / 4) (4 + 4 * c + k % 4) = x2
      generalize Q (k / 4) (4 + 4 * c + 2 + k % 4) = x3
      grind
    · rw [if_neg h, if_neg h, if_neg h]
      grind
theorem ww_ev_lin (Q : Nat → Nat → ww_F) (a : ww_F) (u v : ww_V) (k : Nat) : ww_ev Q (fun k => a * u k + v k) k = a * ww_ev Q u k + ww_ev Q v k := by
  induction k with
  | zero =>
    show (0 : ww_F) = a * 0 + 0
    grind
  | succ k ih =>
    show ww_ev Q (fun k => a * u k + v k) k + (if k % 4 < 2 then (a * u k + v k) * Q (k / 4) (2 + k % 4) else 0) = a * (ww_ev Q u k + (if k % 4 < 2 then u k * Q (k / 4) (2 + k % 4) else 0)) + (ww_ev Q v k + (if k % 4 < 2 then v k * Q (k / 4) (2 + k % 4) else 0))
    rw [ih]
    generalize ww_ev Q u k = x1
    generalize ww_ev Q v k = x2
    generalize u k = x3
    generalize v k = x4
    generalize Q (k / 4) (2 + k % 4) = x5
    split <;> grind
theorem ww_ev_0 (Q : Nat → Nat → ww_F) (k : Nat) : ww_ev Q (fun _ => 0) k = 0 := by
  induction k with
  | zero => rfl
  | succ k ih =>
    show ww_ev Q (fun _ => 0) k + (if k % 4 < 2 then 0 * Q (k / 4) (2 + k % 4) else 0) = 0
    rw [ih]
    generalize Q (k / 4) (2 + k % 4) = x5
    split <;> grind
theorem ww_E_lin (d : Nat) (Q : Nat → Nat → ww_F) : ww_lin (fun v => ww_E d Q v = 0) := by
  refine ⟨ww_ev_0 Q _, fun a u v hu hv => ?_⟩
  show ww_ev Q (fun k => a * u k + v k) (4 * d) = 0
  rw [ww_ev_lin, show ww_ev Q u (4 * d) = 0 from hu, show ww_ev Q v (4 * d) = 0 from hv]
  grind
theorem ww_E_0 (Q : Nat → Nat → ww_F) (v : ww_V) : ww_E 0 Q v = 0 := rfl
theorem ww_E_s (d : Nat) (Q : Nat → Nat → ww_F) (v : ww_V) : ww_E (d + 1) Q v = ww_E d Q v + (v (4 * d) * Q d 2 + v (4 * d + 1) * Q d 3) := by
  show ((((ww_ev Q v (4 * d) + (if 4 * d % 4 < 2 then v (4 * d) * Q (4 * d / 4) (2 + 4 * d % 4) else 0)) + (if (4 * d + 1) % 4 < 2 then v (4 * d + 1) * Q ((4 * d + 1) / 4) (2 + (4 * d + 1) % 4) else 0)) + (if (4 * d + 2) % 4 < 2 then v (4 * d + 2) * Q ((4 * d + 2) / 4) (2 + (4 * d + 2) % 4) else 0)) + (if (4 * d + 3) % 4 < 2 then v (4 * d + 3) * Q ((4 * d + 3) / 4) (2 + (4 * d + 3) % 4) else 0)) = ww_ev Q v (4 * d) + _
  rw [if_pos (by omega), if_pos (by omega), if_neg (by omega), if_neg (by omega), show 4 * d / 4 = d by omega, show (4 * d + 1) / 4 = d by omega, show 2 + 4 * d % 4 = 2 by omega, show 2 + (4 * d + 1) % 4 = 3 by omega]
  generalize ww_ev Q v (4 * d) = x1
  generalize v (4 * d) * Q d 2 = x2
  generalize v (4 * d + 1) * Q d 3 = x3
  grind
theorem ww_E_rw (d : Nat) (Q : Nat → Nat → ww_F) (sg : Nat → ww_F) (n e : Nat) (he : e < d) : ww_rw d Q sg n (4 * e) * Q e 2 + ww_rw d Q sg n (4 * e + 1) * Q e 3 = ww_w (Q e) n * sg e := by
  have e0 : ww_rw d Q sg n (4 * e) = ww_r (Q e) n 0 * sg e := by
    unfold ww_rw
    rw [if_pos (by omega), show 4 * e / 4 = e by omega, show 4 * e % 4 = 0 by omega]
  have e1 : ww_rw d Q sg n (4 * e + 1) = ww_r (Q e) n 1 * sg e := by
    unfold ww_rw
    rw [if_pos (by omega), show (4 * e + 1) / 4 = e by omega, show (4 * e + 1) % 4 = 1 by omega]
  rw [e0, e1]
  unfold ww_w
  generalize ww_r (Q e) n 0 = x0
  generalize ww_r (Q e) n 1 = x1
  grind
theorem ww_E1 (Q : Nat → Nat → ww_F) (sg : Nat → ww_F) (n : Nat) : ww_E 1 Q (ww_rw 1 Q sg n) = ww_w (Q 0) n * sg 0 := by
  rw [ww_E_s, ww_E_0, ww_E_rw 1 Q sg n 0 (by omega)]
  grind
theorem ww_E2 (Q : Nat → Nat → ww_F) (sg : Nat → ww_F) (n : Nat) : ww_E 2 Q (ww_rw 2 Q sg n) = ww_w (Q 0) n * sg 0 + ww_w (Q 1) n * sg 1 := by
  rw [ww_E_s, ww_E_s, ww_E_0, ww_E_rw 2 Q sg n 0 (by omega), ww_E_rw 2 Q sg n 1 (by omega)]
  grind
theorem ww_E3 (Q : Nat → Nat → ww_F) (sg : Nat → ww_F) (n : Nat) : ww_E 3 Q (ww_rw 3 Q sg n) = ww_w (Q 0) n * sg 0 + ww_w (Q 1) n * sg 1 + ww_w (Q 2) n * sg 2 := by
  rw [ww_E_s, ww_E_s, ww_E_s, ww_E_0, ww_E_rw 3 Q sg n 0 (by omega), ww_E_rw 3 Q sg n 1 (by omega), ww_E_rw 3 Q sg n 2 (by omega)]
  grind
/-! the search: words by rising codes -/
def ww_ex (cd : Nat → Nat) (k c m : Nat) : Prop := m = 1 ∨ ∃ k' c', c' < 2 ∧ (k' < k ∨ k' = k ∧ c' < c) ∧ m = 2 * cd k' + c'
def ww_low (n : Nat) (K : Nat → ww_V) (cd : Nat → Nat) (m : Nat) (u : ww_V) : Prop := ∃ j, j < n ∧ cd j ≤ m ∧ u = K j
def ww_si (rho : Nat → ww_V) (E : ww_V → ww_F) (n : Nat) (K : Nat → ww_V) (cd : Nat → Nat) (k c : Nat) : Prop :=
  (∀ j, j < n → K j = rho (cd j) ∧ 1 ≤ cd j ∧ cd j < 2 ^ (j + 1) ∧ E (K j) = 0 ∧ ww_ex cd k c (cd j)) ∧ (∀ i j, i < j → j < n → cd i < cd j) ∧ (∀ m, ww_ex cd k c m → ww_sp (ww_low n K cd m) (rho m))
theorem ww_si_lt {rho : Nat → ww_V} {E : ww_V → ww_F} {n : Nat} {K : Nat → ww_V} {cd : Nat → Nat} {k c : Nat} (h : ww_si rho E n K cd k c) (hk : k < n) {j : Nat} (hj : j < n) : cd j < 2 * cd k + c := by
  have hk1 := (h.1 k hk).2.1
  rcases (h.1 j hj).2.2.2.2 with e | ⟨k', c', h1, h2, h3⟩
  · omega
  · rcases h2 with h2 | ⟨h2, h4⟩
    · have := h.2.1 k' k h2 hk
      omega
    · rw [h2] at h3
      omega
theorem ww_si_0 {rho : Nat → ww_V} {E : ww_V → ww_F} {K : Nat → ww_V} {cd : Nat → Nat} (h : ww_sp (ww_fam K 0) (rho 1)) : ww_si rho E 0 K cd 0 0 := by
  refine ⟨fun j hj => absurd hj (by omega), fun i j _ hj => absurd hj (by omega), fun m hm => ?_⟩
  rcases hm with rfl | ⟨k', c', h1, h2, h3⟩
  · exact ww_fam_of (fun b hb => absurd hb (by omega)) h
  · omega
theorem ww_si_1 {rho : Nat → ww_V} {E : ww_V → ww_F} {K : Nat → ww_V} {cd : Nat → Nat} (hK : K 0 = rho 1) (hc : cd 0 = 1) (hE : E (rho 1) = 0) : ww_si rho E 1 K cd 0 0 := by
  refine ⟨fun j hj => ?_, fun i j hi hj => by omega, fun m hm => ?_⟩
  · have e : j = 0 := by omega
    subst e
    rw [hc, hK]
    exact ⟨rfl, by omega, by decide, hE, Or.inl rfl⟩
  · rcases hm with rfl | ⟨k', c', h1, h2, h3⟩
    · exact ww_sp_in ⟨0, by omega, by omega, hK.symm⟩
    · omega
theorem ww_ex_s {cd : Nat → Nat} {k c m : Nat} (h : ww_ex cd k (c + 1) m) (hc : c < 2) : ww_ex cd k c m ∨ m = 2 * cd k + c := by
  rcases h with e | ⟨k', c', h1, h2, h3⟩
  · exact Or.inl (Or.inl e)
  · rcases h2 with h2 | ⟨h2, h4⟩
    · exact Or.inl (Or.inr ⟨k', c', h1, Or.inl h2, h3⟩)
    · by_cases e : c' = c
      · exact Or.inr (by rw [h3, h2, e])
      · exact Or.inl (Or.inr ⟨k', c', h1, Or.inr ⟨h2, by omega⟩, h3⟩)
theorem ww_ex_up {cd : Nat → Nat} {k c m : Nat} (h : ww_ex cd k c m) : ww_ex cd k (c + 1) m := by
  rcases h with e | ⟨k', c', h1, h2, h3⟩
  · exact Or.inl e
  · exact Or.inr ⟨k', c', h1, by omega, h3⟩
theorem ww_ex_cd {cd cd' : Nat → Nat} {k c m : Nat} (e : ∀ j, j ≤ k → cd' j = cd j) (h : ww_ex cd k c m) : ww_ex cd' k c m := by
  rcases h with e | ⟨k', c', h1, h2, h3⟩
  · exact Or.inl e
  · exact Or.inr ⟨k', c', h1, h2, by rw [e k' (by omega), h3]⟩
/-- the word at hand is spanned by the kept ones -/
theorem ww_si_in {rho : Nat → ww_V} {E : ww_V → ww_F} {n : Nat} {K : Nat → ww_V} {cd : Nat → Nat} {k c : Nat} (h : ww_si rho E n K cd k c) (hk : k < n) (hc : c < 2) (hv : ww_sp (ww_fam K n) (rho (2 * cd k + c))) : ww_si rho E n K cd k (c + 1) := by
  refine ⟨fun j hj => ?_, h.2.1, fun m hm => ?_⟩
  · have a := h.1 j hj
    exact ⟨a.1, a.2.1, a.2.2.1, a.2.2.2.1, ww_ex_up a.2.2.2.2⟩
  · rcases ww_ex_s hm hc with e | e
    · exact h.2.2 m e
    · rw [e]
      exact ww_fam_of (fun b hb => ww_sp_in ⟨b, hb, Nat.le_of_lt (ww_si_lt h hk hb), rfl⟩) hv
/-- the word at hand is kept -/
theorem ww_si_new {rho : Nat → ww_V} {E : ww_V → ww_F} {n : Nat} {K K' : Nat → ww_V} {cd cd' : Nat → Nat} {k c : Nat} (h : ww_si rho E n K cd k c) (hk : k < n) (hc : c < 2) (hE : E (rho (2 * cd k + c)) = 0)
    (hK : ∀ j, j < n → K' j = K j) (hcd : ∀ j, j < n → cd' j = cd j) (hn : K' n = rho (2 * cd k + c)) (hcn : cd' n = 2 * cd k + c) : ww_si rho E (n + 1) K' cd' k (c + 1) := by
  have hex : ∀ m, ww_ex cd k c m → ww_ex cd' k (c + 1) m := fun m hm => ww_ex_up (ww_ex_cd (fun j hj => hcd j (by omega)) hm)
  refine ⟨fun j hj => ?_, fun i j hi hj => ?_, fun m hm => ?_⟩
  · by_cases e : j = n
    · rw [e, hn, hcn]
      have h1 := (h.1 k hk).2.1
      have h2 := (h.1 k hk).2.2.1
      have h3 : 2 ^ (k + 1) ≤ 2 ^ n := Nat.pow_le_pow_right (by omega) (by omega)
      have h4 : 2 ^ (n + 1) = 2 * 2 ^ n := by rw [Nat.pow_succ, Nat.mul_comm]
      exact ⟨rfl, by omega, by omega, hE, Or.inr ⟨k, c, hc, Or.inr ⟨rfl, by omega⟩, by rw [hcd k hk]⟩⟩
    · have a := h.1 j (by omega)
      rw [hK j (by omega), hcd j (by omega)]
      exact ⟨a.1, a.2.1, a.2.2.1, a.2.2.2.1, hex _ a.2.2.2.2⟩
  · by_cases e : j = n
    · rw [e, hcn, hcd i (by omega)]
      exact ww_si_lt h hk (by omega)
    · rw [hcd i (by omega), hcd j (by omega)]
      exact h.2.1 i j hi (by omega)
  · have hm' : ww_ex cd k (c + 1) m := ww_ex_cd (fun j hj => (hcd j (by omega)).symm) hm
    rcases ww_ex_s hm' hc with e | e
    · refine ww_sp_mono (fun u hu => ?_) (h.2.2 m e)
      obtain ⟨j, h1, h2, h3⟩ := hu
      exact ⟨j, by omega, by rw [hcd j h1]; exact h2, by rw [hK j h1]; exact h3⟩
    · rw [e]
      exact ww_sp_in ⟨n, by omega, by omega, hn.symm⟩
theorem ww_si_next {rho : Nat → ww_V} {E : ww_V → ww_F} {n : Nat} {K : Nat → ww_V} {cd : Nat → Nat} {k : Nat} (h : ww_si rho E n K cd k 2) : ww_si rho E n K cd (k + 1) 0 := by
  have e1 : ∀ m, ww_ex cd k 2 m → ww_ex cd (k + 1) 0 m := by
    intro m hm
    rcases hm with e | ⟨k', c', h1, h2, h3⟩
    · exact Or.inl e
    · exact Or.inr ⟨k', c', h1, by omega, h3⟩
  have e2 : ∀ m, ww_ex cd (k + 1) 0 m → ww_ex cd k 2 m := by
    intro m hm
    rcases hm with e | ⟨k', c', h1, h2, h3⟩
    · exact Or.inl e
    · exact Or.inr ⟨k', c', h1, by omega, h3⟩
  refine ⟨fun j hj => ?_, h.2.1, fun m hm => h.2.2 m (e2 m hm)⟩
  have a := h.1 j hj
  exact ⟨a.1, a.2.1, a.2.2.1, a.2.2.2.1, e1 _ a.2.2.2.2⟩
/-- every word ahead of the one at hand is spanned by kept words of no greater code -/
theorem ww_si_all {rho : Nat → ww_V} {E : ww_V → ww_F} {A : Nat → ww_V → ww_V} {n : Nat} {K : Nat → ww_V} {cd : Nat → Nat} {k c : Nat} (h : ww_si rho E n K cd k c)
    (hA : ∀ c (P : ww_V → Prop), ww_lin P → ww_lin (fun v => P (A c v))) (hr : ∀ m c, 1 ≤ m → c < 2 → rho (2 * m + c) = A c (rho m))
    (M : Nat → Prop) (hM : ∀ m m', M m → m' ≤ m → M m') (hlt : ∀ m j c', M m → j < n → c' < 2 → 2 * cd j + c' ≤ m → (j < k ∨ j = k ∧ c' < c)) :
    ∀ b m, m ≤ b → 1 ≤ m → M m → ww_sp (ww_low n K cd m) (rho m) := by
  intro b
  induction b with
  | zero => intro m h1 h2; omega
  | succ b ih =>
    intro m h1 h2 hm
    by_cases e : m = 1
    · exact h.2.2 m (Or.inl e)
    · have hi := ih (m / 2) (by omega) (by omega) (hM m _ hm (by omega))
      have em : m = 2 * (m / 2) + m % 2 := by omega
      have hr' := hr (m / 2) (m % 2) (by omega) (by omega)
      rw [← em] at hr'
      rw [hr']
      refine hi (fun v => ww_sp (ww_low n K cd m) (A (m % 2) v)) (hA _ _ (ww_sp_lin _)) (fun u hu => ?_)
      obtain ⟨j, j1, j2, rfl⟩ := hu
      have a := h.1 j j1
      have hle : 2 * cd j + m % 2 ≤ m := by omega
      have hx : ww_ex cd k c (2 * cd j + m % 2) := Or.inr ⟨j, m % 2, by omega, hlt m j (m % 2) hm j1 (by omega) hle, rfl⟩
      have hs := h.2.2 _ hx
      rw [hr (cd j) (m % 2) a.2.1 (by omega), ← a.1] at hs
      refine ww_sp_mono (fun u hu => ?_) hs
      obtain ⟨i, i1, i2, i3⟩ := hu
      exact ⟨i, i1, by omega, i3⟩
theorem ww_si_E {rho : Nat → ww_V} {E : ww_V → ww_F} {n : Nat} {K : Nat → ww_V} {cd : Nat → Nat} {k c m : Nat} (h : ww_si rho E n K cd k c) (hE : ww_lin (fun v => E v = 0)) (hs : ww_sp (ww_low n K cd m) (rho m)) : E (rho m) = 0 := by
  refine hs (fun v => E v = 0) hE (fun u hu => ?_)
  obtain ⟨j, j1, j2, rfl⟩ := hu
  exact (h.1 j j1).2.2.2.1
theorem ww_si_least {rho : Nat → ww_V} {E : ww_V → ww_F} {A : Nat → ww_V → ww_V} {n : Nat} {K : Nat → ww_V} {cd : Nat → Nat} {k c : Nat} (h : ww_si rho E n K cd k c) (hk : k < n)
    (hA : ∀ c (P : ww_V → Prop), ww_lin P → ww_lin (fun v => P (A c v))) (hr : ∀ m c, 1 ≤ m → c < 2 → rho (2 * m + c) = A c (rho m)) (hE : ww_lin (fun v => E v = 0)) {m : Nat} (h1 : 1 ≤ m) (h2 : m < 2 * cd k + c) (hc : c < 2) : E (rho m) = 0 := by
  refine ww_si_E h hE (ww_si_all h hA hr (fun m => m < 2 * cd k + c) (fun m m' a b => Nat.lt_of_le_of_lt b a) (fun m j c' hm hj hc' hle => ?_) m m (Nat.le_refl m) h1 h2)
  have hm' : m < 2 * cd k + c := hm
  rcases Nat.lt_trichotomy j k with e | e | e
  · exact Or.inl e
  · rw [e] at hle
    exact Or.inr ⟨e, by omega⟩
  · have := h.2.1 k j e hj
    omega
theorem ww_si_end {rho : Nat → ww_V} {E : ww_V → ww_F} {A : Nat → ww_V → ww_V} {n : Nat} {K : Nat → ww_V} {cd : Nat → Nat} (h : ww_si rho E n K cd n 0)
    (hA : ∀ c (P : ww_V → Prop), ww_lin P → ww_lin (fun v => P (A c v))) (hr : ∀ m c, 1 ≤ m → c < 2 → rho (2 * m + c) = A c (rho m)) (hE : ww_lin (fun v => E v = 0)) {m : Nat} (h1 : 1 ≤ m) : E (rho m) = 0 :=
  ww_si_E h hE (ww_si_all h hA hr (fun _ => True) (fun _ _ _ _ => trivial) (fun m j c' _ hj _ _ => Or.inl hj) m m (Nat.le_refl m) h1 trivial)
/-- the answer of a search -/
def ww_first (f : Nat → ww_F) (r : Nat) : Prop := (r = 0 ∧ ∀ m, 1 ≤ m → f m = 0) ∨ (1 ≤ r ∧ r ≤ 127 ∧ f r ≠ 0 ∧ ∀ m, 1 ≤ m → m < r → f m = 0)
/-! gathering: all words, no codes -/
def ww_gi (rho : Nat → ww_V) (A : Nat → ww_V → ww_V) (n : Nat) (K : Nat → ww_V) (k c : Nat) : Prop :=
  (∀ j, j < n → ∃ u, 1 ≤ u ∧ K j = rho u) ∧ ww_sp (ww_fam K n) (rho 1) ∧ (∀ k' c', c' < 2 → (k' < k ∨ k' = k ∧ c' < c) → ww_sp (ww_fam K n) (A c' (K k')))
theorem ww_gi_0 {rho : Nat → ww_V} {A : Nat → ww_V → ww_V} {K : Nat → ww_V} (h : ww_sp (ww_fam K 0) (rho 1)) : ww_gi rho A 0 K 0 0 := ⟨fun j hj => absurd hj (by omega), h, fun k' c' _ h2 => by omega⟩
theorem ww_gi_1 {rho : Nat → ww_V} {A : Nat → ww_V → ww_V} {K : Nat → ww_V} (h : K 0 = rho 1) : ww_gi rho A 1 K 0 0 := by
  refine ⟨fun j hj => ⟨1, by omega, ?_⟩, ?_, fun k' c' _ h2 => by omega⟩
  · have e : j = 0 := by omega
    rw [e, h]
  · rw [← h]
    exact ww_fam_in (by omega)
theorem ww_gi_in {rho : Nat → ww_V} {A : Nat → ww_V → ww_V} {n : Nat} {K : Nat → ww_V} {k c : Nat} (h : ww_gi rho A n K k c) (hv : ww_sp (ww_fam K n) (A c (K k))) : ww_gi rho A n K k (c + 1) := by
  refine ⟨h.1, h.2.1, fun k' c' h1 h2 => ?_⟩
  by_cases e : k' = k ∧ c' = c
  · rw [e.1, e.2]
    exact hv
  · exact h.2.2 k' c' h1 (by omega)
theorem ww_gi_new {rho : Nat → ww_V} {A : Nat → ww_V → ww_V} {n : Nat} {K K' : Nat → ww_V} {k c : Nat} (h : ww_gi rho A n K k c) (hk : k < n) (hc : c < 2) (hr : ∀ m c, 1 ≤ m → c < 2 → rho (2 * m + c) = A c (rho m))
    (hK : ∀ j, j < n → K' j = K j) (hn : K' n = A c (K k)) : ww_gi rho A (n + 1) K' k (c + 1) := by
  refine ⟨fun j hj => ?_, ww_fam_le (by omega) hK h.2.1, fun k' c' h1 h2 => ?_⟩
  · by_cases e : j = n
    · obtain ⟨u, u1, u2⟩ := h.1 k hk
      refine ⟨2 * u + c, by omega, ?_⟩
      rw [e, hn, u2, hr u c u1 hc]
    · rw [hK j (by omega)]
      exact h.1 j (by omega)
  · by_cases e : k' = k ∧ c' = c
    · rw [e.1, e.2, hK k hk, ← hn]
      exact ww_fam_in (by omega)
    · rw [hK k' (by omega)]
      exact ww_fam_le (by omega) hK (h.2.2 k' c' h1 (by omega))
theorem ww_gi_next {rho : Nat → ww_V} {A : Nat → ww_V → ww_V} {n : Nat} {K : Nat → ww_V} {k : Nat} (h : ww_gi rho A n K k 2) : ww_gi rho A n K (k + 1) 0 := ⟨h.1, h.2.1, fun k' c' h1 h2 => h.2.2 k' c' h1 (by omega)⟩
theorem ww_gi_end {rho : Nat → ww_V} {A : Nat → ww_V → ww_V} {n : Nat} {K : Nat → ww_V} (h : ww_gi rho A n K n 0)
    (hA : ∀ c (P : ww_V → Prop), ww_lin P → ww_lin (fun v => P (A c v))) (hr : ∀ m c, 1 ≤ m → c < 2 → rho (2 * m + c) = A c (rho m)) : ∀ b m, m ≤ b → 1 ≤ m → ww_sp (ww_fam K n) (rho m) := by
  intro b
  induction b with
  | zero => intro m h1 h2; omega
  | succ b ih =>
    intro m h1 h2
    by_cases e : m = 1
    · rw [e]
      exact h.2.1
    · have hi := ih (m / 2) (by omega) (by omega)
      have em : m = 2 * (m / 2) + m % 2 := by omega
      have hr' := hr (m / 2) (m % 2) (by omega) (by omega)
      rw [← em] at hr'
      rw [hr']
      refine hi (fun v => ww_sp (ww_fam K n) (A (m % 2) v)) (hA _ _ (ww_sp_lin _)) (fun u hu => ?_)
      obtain ⟨j, j1, rfl⟩ := hu
      exact h.2.2 j (m % 2) (by omega) (Or.inl j1)
end
section
/-! columns, from the ends backward -/
def ww_c (P : Nat → ww_F) (n : Nat) (p : Nat) : ww_F := if n ≤ 1 then P (2 + p) else P (4 + 4 * (n % 2) + 2 * p) * ww_c P (n / 2) 0 + P (4 + 4 * (n % 2) + 2 * p + 1) * ww_c P (n / 2) 1
termination_by n
decreasing_by all_goals omega
theorem ww_c_1 (P : Nat → ww_F) (q : Nat) : ww_c P 1 q = P (2 + q) := by
  rw [ww_c]
  exact if_pos (by omega)
theorem ww_c_s (P : Nat → ww_F) {n c : Nat} (hn : 1 ≤ n) (hc : c < 2) (p : Nat) : ww_c P (2 * n + c) p = P (4 + 4 * c + 2 * p) * ww_c P n 0 + P (4 + 4 * c + 2 * p + 1) * ww_c P n 1 := by
  have h1 : (2 * n + c) / 2 = n := by omega
  have h2 : (2 * n + c) % 2 = c := by omega
  conv => lhs; rw [ww_c]
  rw [if_neg (by omega), h1, h2]
def ww_cl (P : Nat → ww_F) (n : Nat) : ww_V := fun k => if k < 2 then ww_c P n k else 0
def ww_B (P : Nat → ww_F) (c : Nat) (v : ww_V) : ww_V := fun k => if k < 2 then P (4 + 4 * c + 2 * k) * v 0 + P (4 + 4 * c + 2 * k + 1) * v 1 else 0
theorem ww_su1 {v : ww_V} (h : ∀ k, ¬ k < 2 → v k = 0) : ww_su 1 v := fun k hk => h k (fun z => hk ⟨by omega, by omega⟩)
theorem ww_cl_su (P : Nat → ww_F) (n : Nat) : ww_su 1 (ww_cl P n) := ww_su1 (fun _ hk => if_neg hk)
theorem ww_B_su (P : Nat → ww_F) (c : Nat) (v : ww_V) : ww_su 1 (ww_B P c v) := ww_su1 (fun _ hk => if_neg hk)
theorem ww_cl_s (P : Nat → ww_F) {n c : Nat} (hn : 1 ≤ n) (hc : c < 2) : ww_cl P (2 * n + c) = ww_B P c (ww_cl P n) := by
  funext k
  by_cases h : k < 2
  · unfold ww_B
    rw [if_pos h]
    unfold ww_cl
    rw [if_pos h, if_pos (by omega), if_pos (by omega), ww_c_s P hn hc]
  · unfold ww_B ww_cl
    rw [if_neg h, if_neg h]
theorem ww_B_lin (Q : Nat → ww_F) (c : Nat) {P : ww_V → Prop} (hP : ww_lin P) : ww_lin (fun v => P (ww_B Q c v)) := by
  constructor
  · have e : ww_B Q c (fun _ => 0) = (fun _ => 0) := by
      funext k
      show (if k < 2 then Q (4 + 4 * c + 2 * k) * 0 + Q (4 + 4 * c + 2 * k + 1) * 0 else 0) = (0 : ww_F)
      generalize Q (4 + 4 * c + 2 * k) = x2
      generalize Q (4 + 4 * c + 2 * k + 1) = x3
      split
      · grind
      · rfl
    show P (ww_B Q c (fun _ => 0))
    rw [e]
    exact hP.1
  · intro a u v hu hv
    refine ww_comb hP a hu hv (fun k => ?_)
    unfold ww_B
    dsimp only
    by_cases h : k < 2
    · rw [if_pos h, if_pos h, if_pos h]
      generalize u 0 = x0
      generalize v 0 = x1
      generalize u 1 = x4
      generalize v 1 = x5
      generalize Q (4 + 4 * c + 2 * k) = x2
      generalize Q (4 + 4 * c + 2 * k + 1) = x3
      grind
    · rw [if_neg h, if_neg h, if_neg h]
      grind
def ww_be (u v : ww_V) : ww_F := u 0 * v 0 + u 1 * v 1
theorem ww_be_l (v : ww_V) (a : ww_F) (u u' : ww_V) : ww_be (fun k => a * u k + u' k) v = a * ww_be u v + ww_be u' v := by
  unfold ww_be
  dsimp only
  generalize u 0 = x0
  generalize u 1 = x1
  generalize u' 0 = y0
  generalize u' 1 = y1
  generalize v 0 = z0
  generalize v 1 = z1
  grind
theorem ww_be_r (v : ww_V) (a : ww_F) (u u' : ww_V) : ww_be v (fun k => a * u k + u' k) = a * ww_be v u + ww_be v u' := by
  unfold ww_be
  dsimp only
  generalize u 0 = x0
  generalize u 1 = x1
  generalize u' 0 = y0
  generalize u' 1 = y1
  generalize v 0 = z0
  generalize v 1 = z1
  grind
theorem ww_be_l0 (v : ww_V) : ww_be (fun _ => 0) v = 0 := by
  unfold ww_be
  dsimp only
  generalize v 0 = z0
  generalize v 1 = z1
  grind
theorem ww_be_r0 (v : ww_V) : ww_be v (fun _ => 0) = 0 := by
  unfold ww_be
  dsimp only
  generalize v 0 = z0
  generalize v 1 = z1
  grind
/-- a word and a word behind it -/
def ww_cat (u v : Nat) : Nat := if v ≤ 1 then u else ww_cat (2 * u + v % 2) (v / 2)
termination_by v
decreasing_by all_goals omega
theorem ww_cat_1 (u : Nat) : ww_cat u 1 = u := by
  rw [ww_cat]
  exact if_pos (by omega)
theorem ww_cat_s (u : Nat) {v c : Nat} (hv : 1 ≤ v) (hc : c < 2) : ww_cat u (2 * v + c) = ww_cat (2 * u + c) v := by
  have h1 : (2 * v + c) / 2 = v := by omega
  have h2 : (2 * v + c) % 2 = c := by omega
  conv => lhs; rw [ww_cat]
  rw [if_neg (by omega), h1, h2]
theorem ww_cat_ge : ∀ b u v, v ≤ b → 1 ≤ u → 1 ≤ v → 1 ≤ ww_cat u v := by
  intro b
  induction b with
  | zero => intro u v h1 h2 h3; omega
  | succ b ih =>
    intro u v h1 h2 h3
    by_cases e : v = 1
    · rw [e, ww_cat_1]
      exact h2
    · have ev : v = 2 * (v / 2) + v % 2 := by omega
      rw [ev, ww_cat_s u (by omega) (by omega)]
      exact ih _ _ (by omega) (by omega) (by omega)
def ww_dot (P : Nat → ww_F) (u v : Nat) : ww_F := ww_r P u 0 * ww_c P v 0 + ww_r P u 1 * ww_c P v 1
theorem ww_dot_s (P : Nat → ww_F) {u v c : Nat} (hu : 1 ≤ u) (hv : 1 ≤ v) (hc : c < 2) : ww_dot P u (2 * v + c) = ww_dot P (2 * u + c) v := by
  unfold ww_dot
  rw [ww_r_s P hu hc, ww_r_s P hu hc, ww_c_s P hv hc, ww_c_s P hv hc]
  simp only [Nat.mul_zero, Nat.add_zero, Nat.mul_one]
  generalize ww_r P u 0 = x0
  generalize ww_r P u 1 = x1
  generalize ww_c P v 0 = y0
  generalize ww_c P v 1 = y1
  generalize P (4 + 4 * c) = p0
  generalize P (4 + 4 * c + 1) = p1
  generalize P (4 + 4 * c + 2) = p2
  generalize P (4 + 4 * c + 2 + 1) = p3
  grind
theorem ww_dot_w (P : Nat → ww_F) : ∀ b u v, v ≤ b → 1 ≤ u → 1 ≤ v → ww_dot P u v = ww_w P (ww_cat u v) := by
  intro b
  induction b with
  | zero => intro u v h1 h2 h3; omega
  | succ b ih =>
    intro u v h1 h2 h3
    by_cases e : v = 1
    · rw [e, ww_cat_1]
      unfold ww_dot ww_w
      rw [ww_c_1, ww_c_1]
    · have ev : v = 2 * (v / 2) + v % 2 := by omega
      rw [ev, ww_cat_s u (by omega) (by omega), ww_dot_s P h2 (by omega) (by omega)]
      exact ih _ _ (by omega) (by omega) (by omega)
/-- the rows of one automaton, its start numbers with the sign 1 -/
def ww_ro (P : Nat → ww_F) (n : Nat) : ww_V := ww_rw 1 (fun _ => P) (fun _ => 1) n
theorem ww_be_ro (P : Nat → ww_F) (u v : Nat) : ww_be (ww_ro P u) (ww_cl P v) = ww_dot P u v := by
  have e0 : ww_ro P u 0 = ww_r P u 0 * 1 := rfl
  have e1 : ww_ro P u 1 = ww_r P u 1 * 1 := rfl
  have c0 : ww_cl P v 0 = ww_c P v 0 := rfl
  have c1 : ww_cl P v 1 = ww_c P v 1 := rfl
  unfold ww_be ww_dot
  rw [e0, e1, c0, c1]
  generalize ww_r P u 0 = x0
  generalize ww_r P u 1 = x1
  generalize ww_c P v 0 = y0
  generalize ww_c P v 1 = y1
  grind
theorem ww_be_w (P : Nat → ww_F) {u v : Nat} (hu : 1 ≤ u) (hv : 1 ≤ v) : ww_be (ww_ro P u) (ww_cl P v) = ww_w P (ww_cat u v) := (ww_be_ro P u v).trans (ww_dot_w P v u v (Nat.le_refl v) hu hv)
/-- the rank, by the weights alone -/
def ww_min (w : Nat → ww_F) : Prop := ∀ u v u' v', 1 ≤ u → 1 ≤ v → 1 ≤ u' → 1 ≤ v' → w (ww_cat u v) * w (ww_cat u' v') = w (ww_cat u v') * w (ww_cat u' v)
def ww_rk (w : Nat → ww_F) (t : Nat) : Prop := t ≤ 2 ∧ (t = 0 ↔ ∀ m, 1 ≤ m → w m = 0) ∧ (t ≤ 1 ↔ ww_min w)
theorem ww_rk_eq {w w' : Nat → ww_F} {t t' : Nat} (h : ww_rk w t) (h' : ww_rk w' t') (e : ∀ m, 1 ≤ m → w m = w' m) : t = t' := by
  have e0 : t = 0 ↔ t' = 0 := by
    rw [h.2.1, h'.2.1]
    exact ⟨fun z m hm => (e m hm).symm.trans (z m hm), fun z m hm => (e m hm).trans (z m hm)⟩
  have e1 : t ≤ 1 ↔ t' ≤ 1 := by
    rw [h.2.2, h'.2.2]
    constructor
    · intro z u v u' v' h1 h2 h3 h4
      have := z u v u' v' h1 h2 h3 h4
      rw [e _ (ww_cat_ge v u v (Nat.le_refl _) h1 h2), e _ (ww_cat_ge v' u' v' (Nat.le_refl _) h3 h4), e _ (ww_cat_ge v' u v' (Nat.le_refl _) h1 h4), e _ (ww_cat_ge v u' v (Nat.le_refl _) h3 h2)] at this
      exact this
    · intro z u v u' v' h1 h2 h3 h4
      have := z u v u' v' h1 h2 h3 h4
      rw [← e _ (ww_cat_ge v u v (Nat.le_refl _) h1 h2), ← e _ (ww_cat_ge v' u' v' (Nat.le_refl _) h3 h4), ← e _ (ww_cat_ge v' u v' (Nat.le_refl _) h1 h4), ← e _ (ww_cat_ge v u' v (Nat.le_refl _) h3 h2)] at this
      exact this
  have := h.1
  have := h'.1
  omega
theorem ww_rk_det {w : Nat → ww_F} {t : Nat} (h : ww_rk w t) (h1 : t ≠ 2) : w 1 * w 4 = w 2 * w 2 := by
  have hm := h.2.2.mp (by have := h.1; omega) 1 1 2 2 (by omega) (by omega) (by omega) (by omega)
  have c12 : ww_cat 1 2 = 2 := (ww_cat_s 1 (v := 1) (c := 0) (by omega) (by omega)).trans (ww_cat_1 2)
  have c22 : ww_cat 2 2 = 4 := (ww_cat_s 2 (v := 1) (c := 0) (by omega) (by omega)).trans (ww_cat_1 4)
  rw [ww_cat_1, ww_cat_1, c12, c22] at hm
  exact hm
/-! the products of rows and columns, and the basis of them -/
def ww_N (n2 : Nat) (K C : Nat → ww_V) (i : Nat) : ww_V := fun j => if j < n2 then ww_be (K i) (C j) else 0
theorem ww_N_su {n2 : Nat} (h : n2 ≤ 2) (K C : Nat → ww_V) (i : Nat) : ww_su 1 (ww_N n2 K C i) := ww_su1 (fun _ hk => if_neg (fun z => hk (by omega)))
def ww_ri (N : Nat → ww_V) (R : Nat → ww_V) (i t : Nat) : Prop := t ≤ i ∧ (∀ j, j < i → ww_sp (ww_fam R t) (N j)) ∧ (∀ b, b < t → ww_sp (ww_fam N i) (R b)) ∧ (t = 2 → ∃ j k, N 0 j * N 1 k ≠ N 0 k * N 1 j)
theorem ww_ri_0 (N R : Nat → ww_V) : ww_ri N R 0 0 := ⟨Nat.le_refl 0, fun j hj => absurd hj (by omega), fun j hj => absurd hj (by omega), fun z => absurd z (by omega)⟩
theorem ww_ri_in {N R : Nat → ww_V} {i t : Nat} (h : ww_ri N R i t) (hv : ww_sp (ww_fam R t) (N i)) : ww_ri N R (i + 1) t := by
  refine ⟨by have := h.1; omega, fun j hj => ?_, fun b hb => ww_fam_le (by omega) (fun _ _ => rfl) (h.2.2.1 b hb), h.2.2.2⟩
  by_cases e : j = i
  · rw [e]
    exact hv
  · exact h.2.1 j (by omega)
/-- a multiple of one row -/
theorem ww_mult_lin (T : ww_V) : ww_lin (fun v => ∃ a : ww_F, ∀ k, v k = a * T k) := by
  refine ⟨⟨0, fun k => ?_⟩, fun a u v hu hv => ?_⟩
  · generalize T k = x
    grind
  · obtain ⟨b, hb⟩ := hu
    obtain ⟨c, hc⟩ := hv
    refine ⟨a * b + c, fun k => ?_⟩
    show a * u k + v k = _
    rw [hb k, hc k]
    generalize T k = x
    grind
theorem ww_mult_1 {R : Nat → ww_V} {v : ww_V} {t : Nat} (ht : t ≤ 1) (h : ww_sp (ww_fam R t) v) : ∃ a : ww_F, ∀ k, v k = a * R 0 k := by
  refine h _ (ww_mult_lin (R 0)) (fun u hu => ?_)
  obtain ⟨b, hb, rfl⟩ := hu
  have e : b = 0 := by omega
  rw [e]
  refine ⟨1, fun k => ?_⟩
  generalize R 0 k = x
  grind
theorem ww_ri_new {N R R' : Nat → ww_V} {pv : Nat → Nat} {i t : Nat} (h : ww_ri N R i t) (hi : i < 2) (htri : ww_tri R pv t) (hR : ∀ b, b < t → R' b = R b) (h1 : ww_sp (fun u => ww_fam R t u ∨ u = N i) (R' t)) (h2 : ww_sp (ww_fam R' (t + 1)) (N i)) (h3 : ¬ ww_sp (ww_fam R t) (N i)) : ww_ri N R' (i + 1) (t + 1) := by
  refine ⟨by have := h.1; omega, fun j hj => ?_, fun b hb => ?_, fun ht => ?_⟩
  · by_cases e : j = i
    · rw [e]
      exact h2
    · exact ww_fam_le (by omega) hR (h.2.1 j (by omega))
  · by_cases e : b = t
    · rw [e]
      refine ww_sp_le (fun u hu => ?_) h1
      rcases hu with ⟨c, hc, rfl⟩ | rfl
      · exact ww_fam_le (by omega) (fun _ _ => rfl) (h.2.2.1 c hc)
      · exact ww_fam_in (by omega)
    · rw [hR b (by omega)]
      exact ww_fam_le (by omega) (fun _ _ => rfl) (h.2.2.1 b (by omega))
  · have ht1 : t = 1 := by omega
    have hi1 : i = 1 := by have := h.1; omega
    subst ht1
    subst hi1
    by_cases hc : ∃ j k, N 0 j * N 1 k ≠ N 0 k * N 1 j
    · exact hc
    · exfalso
      have hm : ∀ j k, N 0 j * N 1 k = N 0 k * N 1 j := by
        intro j k
        by_cases e : N 0 j * N 1 k = N 0 k * N 1 j
        · exact e
        · exact absurd ⟨j, k, e⟩ hc
      obtain ⟨a, ha⟩ := ww_mult_1 (R := N) (t := 1) (by omega) (h.2.2.1 0 (by omega))
      have hp := (htri 0 (by omega)).1
      rw [ha (pv 0)] at hp
      have hne : N 0 (pv 0) ≠ 0 := by
        intro z
        rw [z] at hp
        exact ww_10 (by rw [← hp]; grind)
      have hinv := ww_inv_ok hne
      refine h3 ?_
      have hs := ww_smul (ww_sp_lin (ww_fam R 1)) (N 1 (pv 0) * ww_inv (N 0 (pv 0))) (h.2.1 0 (by omega))
      rw [show (fun k => N 1 (pv 0) * ww_inv (N 0 (pv 0)) * N 0 k) = N 1 from funext fun k => ?_] at hs
      · exact hs
      · have hmk := hm (pv 0) k
        revert hmk hinv
        generalize N 0 (pv 0) = x0
        generalize N 1 k = x1
        generalize N 0 k = x2
        generalize N 1 (pv 0) = x3
        generalize ww_inv x0 = x4
        intro e1 e2
        grind
/-- a form that is 0 on the generators is 0 -/
theorem ww_be_sp {K C : Nat → ww_V} {n1 n2 : Nat} (h : ∀ i j, i < n1 → j < n2 → ww_be (K i) (C j) = 0) {u v : ww_V} (hu : ww_sp (ww_fam K n1) u) (hv : ww_sp (ww_fam C n2) v) : ww_be u v = 0 := by
  refine hu (fun u => ww_be u v = 0) ⟨ww_be_l0 v, fun a x y hx hy => ?_⟩ (fun u hu => ?_)
  · show ww_be (fun k => a * x k + y k) v = 0
    rw [ww_be_l, hx, hy]
    grind
  · obtain ⟨i, hi, rfl⟩ := hu
    refine hv (fun v => ww_be (K i) v = 0) ⟨ww_be_r0 (K i), fun a x y hx hy => ?_⟩ (fun v hv => ?_)
    · show ww_be (K i) (fun k => a * x k + y k) = 0
      rw [ww_be_r, hx, hy]
      grind
    · obtain ⟨j, hj, rfl⟩ := hv
      exact h i j hi hj
theorem ww_mi_l (v v' u' : ww_V) : ww_lin (fun u => ww_be u v * ww_be u' v' = ww_be u v' * ww_be u' v) := by
  refine ⟨?_, fun a x y hx hy => ?_⟩
  · show ww_be (fun _ => 0) v * ww_be u' v' = ww_be (fun _ => 0) v' * ww_be u' v
    rw [ww_be_l0, ww_be_l0]
    generalize ww_be u' v' = x1
    generalize ww_be u' v = x2
    grind
  · show ww_be (fun k => a * x k + y k) v * ww_be u' v' = ww_be (fun k => a * x k + y k) v' * ww_be u' v
    rw [ww_be_l, ww_be_l]
    revert hx hy
    show ww_be x v * ww_be u' v' = ww_be x v' * ww_be u' v → ww_be y v * ww_be u' v' = ww_be y v' * ww_be u' v → _
    generalize ww_be x v = x1
    generalize ww_be x v' = x2
    generalize ww_be y v = x3
    generalize ww_be y v' = x4
    generalize ww_be u' v' = x5
    generalize ww_be u' v = x6
    intro e1 e2
    grind
theorem ww_mi_r (u u' v' : ww_V) : ww_lin (fun v => ww_be u v * ww_be u' v' = ww_be u v' * ww_be u' v) := by
  refine ⟨?_, fun a x y hx hy => ?_⟩
  · show ww_be u (fun _ => 0) * ww_be u' v' = ww_be u v' * ww_be u' (fun _ => 0)
    rw [ww_be_r0, ww_be_r0]
    generalize ww_be u' v' = x1
    generalize ww_be u v' = x2
    grind
  · show ww_be u (fun k => a * x k + y k) * ww_be u' v' = ww_be u v' * ww_be u' (fun k => a * x k + y k)
    rw [ww_be_r, ww_be_r]
    revert hx hy
    show ww_be u x * ww_be u' v' = ww_be u v' * ww_be u' x → ww_be u y * ww_be u' v' = ww_be u v' * ww_be u' y → _
    generalize ww_be u x = x1
    generalize ww_be u' x = x2
    generalize ww_be u y = x3
    generalize ww_be u' y = x4
    generalize ww_be u' v' = x5
    generalize ww_be u v' = x6
    intro e1 e2
    grind
theorem ww_mi_sp {K C : Nat → ww_V} {n1 n2 : Nat} (h : ∀ i j i' j', i < n1 → j < n2 → i' < n1 → j' < n2 → ww_be (K i) (C j) * ww_be (K i') (C j') = ww_be (K i) (C j') * ww_be (K i') (C j)) {u v u' v' : ww_V}
    (hu : ww_sp (ww_fam K n1) u) (hv : ww_sp (ww_fam C n2) v) (hu' : ww_sp (ww_fam K n1) u') (hv' : ww_sp (ww_fam C n2) v') : ww_be u v * ww_be u' v' = ww_be u v' * ww_be u' v := by
  refine hu _ (ww_mi_l v v' u') (fun x hx => ?_)
  obtain ⟨i, hi, rfl⟩ := hx
  refine hv _ (ww_mi_r (K i) u' v') (fun x hx => ?_)
  obtain ⟨j, hj, rfl⟩ := hx
  have s1 : ∀ x y : ww_F, x = y → y = x := fun x y z => z.symm
  have m3 := hu' _ (ww_mi_l v' (C j) (K i)) (fun x hx => by
    obtain ⟨i', hi', rfl⟩ := hx
    have m4 := hv' _ (ww_mi_r (K i') (K i) (C j)) (fun x hx => by
      obtain ⟨j', hj', rfl⟩ := hx
      have := h i j i' j' hi hj hi' hj'
      show ww_be (K i') (C j') * ww_be (K i) (C j) = ww_be (K i') (C j) * ww_be (K i) (C j')
      revert this
      generalize ww_be (K i) (C j) = x1
      generalize ww_be (K i') (C j') = x2
      generalize ww_be (K i) (C j') = x3
      generalize ww_be (K i') (C j) = x4
      intro e
      grind)
    exact m4)
  have m3' : ww_be u' v' * ww_be (K i) (C j) = ww_be u' (C j) * ww_be (K i) v' := m3
  revert m3'
  show _ → ww_be (K i) (C j) * ww_be u' v' = ww_be (K i) v' * ww_be u' (C j)
  generalize ww_be (K i) (C j) = x1
  generalize ww_be u' v' = x2
  generalize ww_be (K i) v' = x3
  generalize ww_be u' (C j) = x4
  intro e
  grind
theorem ww_ri_end {P : Nat → ww_F} {K C R : Nat → ww_V} {pv : Nat → Nat} {n1 n2 t : Nat} (hn : n1 ≤ 2) (hK : ∀ j, j < n1 → ∃ u, 1 ≤ u ∧ K j = ww_ro P u) (hKs : ∀ m, 1 ≤ m → ww_sp (ww_fam K n1) (ww_ro P m))
    (hC : ∀ j, j < n2 → ∃ u, 1 ≤ u ∧ C j = ww_cl P u) (hCs : ∀ m, 1 ≤ m → ww_sp (ww_fam C n2) (ww_cl P m)) (htri : ww_tri R pv t) (h : ww_ri (ww_N n2 K C) R n1 t) : ww_rk (ww_w P) t := by
  have hN : ∀ i j, j < n2 → ww_N n2 K C i j = ww_be (K i) (C j) := fun i j hj => if_pos hj
  have hN0 : ∀ i j, ¬ j < n2 → ww_N n2 K C i j = 0 := fun i j hj => if_neg hj
  refine ⟨by have := h.1; omega, ⟨fun ht m hm => ?_, fun hw => ?_⟩, ⟨fun ht => ?_, fun hm => ?_⟩⟩
  · have hz : ∀ i j, i < n1 → j < n2 → ww_be (K i) (C j) = 0 := by
      intro i j hi hj
      rw [← hN i j hj]
      have hs := h.2.1 i hi
      refine hs (fun v => v j = 0) ⟨rfl, fun a x y hx hy => ?_⟩ (fun u hu => ?_)
      · show a * x j + y j = 0
        rw [show x j = 0 from hx, show y j = 0 from hy]
        grind
      · obtain ⟨b, hb, _⟩ := hu
        omega
    have e := ww_be_w P hm (Nat.le_refl 1)
    rw [ww_cat_1] at e
    rw [← e]
    exact ww_be_sp hz (hKs m hm) (hCs 1 (Nat.le_refl 1))
  · rcases Nat.eq_zero_or_pos t with e | e
    · exact e
    · exfalso
      have hz : ∀ k, R 0 k = 0 := by
        refine h.2.2.1 0 e (fun v => ∀ k, v k = 0) ⟨fun _ => rfl, fun a x y hx hy k => ?_⟩ (fun u hu k => ?_)
        · show a * x k + y k = 0
          rw [hx k, hy k]
          grind
        · obtain ⟨i, hi, rfl⟩ := hu
          by_cases hk : k < n2
          · rw [hN i k hk]
            obtain ⟨x, x1, x2⟩ := hK i hi
            obtain ⟨y, y1, y2⟩ := hC k hk
            rw [x2, y2, ww_be_w P x1 y1]
            exact hw _ (ww_cat_ge y x y (Nat.le_refl y) x1 y1)
          · exact hN0 i k hk
      exact ww_10 ((htri 0 e).1.symm.trans (hz (pv 0)))
  · intro u v u' v' h1 h2 h3 h4
    rw [← ww_be_w P h1 h2, ← ww_be_w P h3 h4, ← ww_be_w P h1 h4, ← ww_be_w P h3 h2]
    refine ww_mi_sp (fun i j i' j' hi hj hi' hj' => ?_) (hKs u h1) (hCs v h2) (hKs u' h3) (hCs v' h4)
    obtain ⟨a, ha⟩ := ww_mult_1 ht (h.2.1 i hi)
    obtain ⟨b, hb⟩ := ww_mult_1 ht (h.2.1 i' hi')
    rw [← hN i j hj, ← hN i' j' hj', ← hN i j' hj', ← hN i' j hj, ha j, ha j', hb j, hb j']
    generalize R 0 j = x1
    generalize R 0 j' = x2
    grind
  · rcases Nat.lt_or_ge t 2 with e | e
    · omega
    · exfalso
      have ht : t = 2 := by have := h.1; omega
      have hn2 : n1 = 2 := by have := h.1; omega
      obtain ⟨j, k, hjk⟩ := h.2.2.2 ht
      by_cases hj : j < n2
      · by_cases hk : k < n2
        · apply hjk
          obtain ⟨x, x1, x2⟩ := hK 0 (by omega)
          obtain ⟨x', x1', x2'⟩ := hK 1 (by omega)
          obtain ⟨y, y1, y2⟩ := hC j hj
          obtain ⟨y', y1', y2'⟩ := hC k hk
          rw [hN 0 j hj, hN 1 k hk, hN 0 k hk, hN 1 j hj, x2, x2', y2, y2', ww_be_w P x1 y1, ww_be_w P x1' y1', ww_be_w P x1 y1', ww_be_w P x1' y1]
          exact hm x y x' y' x1 y1 x1' y1'
        · apply hjk
          rw [hN0 0 k hk, hN0 1 k hk]
          generalize ww_N n2 K C 0 j = z0
          generalize ww_N n2 K C 1 j = z1
          grind
      · apply hjk
        rw [hN0 0 j hj, hN0 1 j hj]
        generalize ww_N n2 K C 0 k = z0
        generalize ww_N n2 K C 1 k = z1
        grind
end
section
/-! the automaton mu of two states holds the numbers P; d members, in their order -/
def ww_M (a1 a2 a3 a4 : Nat → Int32) (mu : Nat) (P : Nat → ww_F) : Prop := a1 mu = nI 2 ∧ (∀ q, q < 2 → a2 (4 * mu + q) = ww_z (P q)) ∧ (∀ q, q < 2 → a3 (4 * mu + q) = ww_z (P (2 + q))) ∧ (∀ c p q, c < 2 → p < 2 → q < 2 → a4 (32 * mu + 16 * c + 4 * p + q) = ww_z (P (4 + 4 * c + 2 * p + q)))
def ww_mem (d : Nat) (Q : Nat → Nat → ww_F) (sg : Nat → ww_F) (a1 a2 a3 a4 a5 a6 : Nat → Int32) : Prop := ∀ i, i < d → ∃ mu, mu < 3 ∧ a5 i = nI mu ∧ a6 i = ww_z (sg i) ∧ ww_M a1 a2 a3 a4 mu (Q i)
section
variable {a1 a2 a3 a4 a5 a6 a7 a8 a9 a10 a11 a12 a13 : Nat → Int32}
variable {m fw fb : Int32}
theorem ww_sr33 {post : St2 → Prop} {J : Int32 → (Nat → Int32) → (Nat → Int32) → (Nat → Int32) → (Nat → Int32) → (Nat → Int32) → (Nat → Int32) → (Nat → Int32) → (Nat → Int32) → (Nat → Int32) → (Nat → Int32) → (Nat → Int32) → (Nat → Int32) → (Nat → Int32) → Prop} {i mu : Nat} {P : Nat → ww_F} {sg : ww_F} (hi : i < 3) (hmu : mu < 3) (h5 : a5 i = nI mu) (h6 : a6 i = ww_z sg) (hM : ww_M a1 a2 a3 a4 mu P)
    (H : ∀ g : Nat → Int32, (∀ k, g k = if 4 * i ≤ k ∧ k < 4 * i + 2 then ww_z (P (k - 4 * i) * sg) else a11 k) → J (nI (i + 1)) a1 a2 a3 a4 a5 a6 a7 a8 a9 a10 g a12 a13) : ∃ n, wX_startRow_33 post J (nI i) m fw fb n 0 a1 a2 a3 a4 a5 a6 a7 a8 a9 a10 a11 a12 a13 := by
  have ei : (nI i).toNatClampNeg = i := nI_clamp (by omega)
  have e5 : a5 (nI i).toNatClampNeg = nI mu := by rw [ei, h5]
  have e1 : a1 (a5 (nI i).toNatClampNeg).toNatClampNeg = nI 2 := by rw [e5, nI_clamp (by omega), hM.1]
  refine pk_loop (fun n q s => wX_startRow_33 post J (nI i) m fw fb n (nI q) a1 a2 a3 a4 a5 a6 a7 a8 a9 a10 s a12 a13) (fun q s => ∀ k, s k = if 4 * i ≤ k ∧ k < 4 * i + q then ww_z (P (k - 4 * i) * sg) else a11 k) 2 0 a11 (by omega) (fun k => (if_neg (by omega)).symm) (fun n s h => ?_) (fun n q s hq h hw => ?_)
  · exact And.intro (pk_in i 3 hi) ⟨pk_in mu 3 hmu e5, pk_le 2 2 (fun _ => nm_r (nI_1 i) (H s h)) (fun z => absurd z (by omega)) e1⟩
  · have ix : 4 * a5 (nI i).toNatClampNeg + nI q = nI (4 * mu + q) := by rw [e5, ww_i4]
    refine And.intro (pk_in i 3 hi) ⟨pk_in mu 3 hmu e5, pk_le 2 q (fun z => absurd z (by omega)) (fun _ => ⟨pk_in i 3 hi, pk_in (4 * mu + q) 12 (by omega) ix, pk_in i 3 hi, by decide, pk_in (4 * i + q) 12 (by omega) (ww_i4 i q), nm_r (e' := upd s (4 * i + q) (ww_z (P q * sg))) ?_ (nm_r (nI_1 q) (hw _ (fun k => ?_)))⟩) e1⟩
    · rw [ix, ww_i4, nI_clamp (show 4 * mu + q < 2 ^ 31 by omega), nI_clamp (show 4 * i + q < 2 ^ 31 by omega), hM.2.1 q hq, ei, h6, ww_mul]
    · by_cases e : k = 4 * i + q
      · rw [e, pk_us, if_pos (by omega), show 4 * i + q - 4 * i = q by omega]
      · rw [pk_un e, h k]
        by_cases e2 : 4 * i ≤ k ∧ k < 4 * i + q
        · rw [if_pos e2, if_pos (by omega)]
        · rw [if_neg e2, if_neg (by omega)]
theorem ww_sr23 {post : St2 → Prop} {d : Nat} {Q : Nat → Nat → ww_F} {sg : Nat → ww_F} (hd : d ≤ 3) (hm : ww_mem d Q sg a1 a2 a3 a4 a5 a6) (h0 : ∀ k, k < 12 → a11 k = 0)
    (H : ∀ g : Nat → Int32, (∀ k, k < 12 → g k = ww_z (ww_s0 d Q sg k)) → post (nI d, fw, fb, a1, a2, a3, a4, a5, a6, a7, a8, a9, a10, g, a12, a13)) : ∃ n, wX_startRow_23 post (nI d) fw fb n 0 a1 a2 a3 a4 a5 a6 a7 a8 a9 a10 a11 a12 a13 := by
  refine pk_loop (fun n i s => wX_startRow_23 post (nI d) fw fb n (nI i) a1 a2 a3 a4 a5 a6 a7 a8 a9 a10 s a12 a13) (fun i s => ∀ k, k < 12 → s k = ww_z (ww_s0 i Q sg k)) d 0 a11 (by omega) (fun k hk => ?_) (fun n s h => ?_) (fun n i s hi h hw => ?_)
  · rw [h0 k hk]
    unfold ww_s0
    rw [if_neg (by omega)]
    rfl
  · exact pk_le d d (fun _ => H s h) (fun z => absurd z (by omega))
  · obtain ⟨mu, hmu, h5, h6, hM⟩ := hm i hi
    refine pk_le d i (fun z => absurd z (by omega)) (fun _ => ww_sr33 (by omega) hmu h5 h6 hM (fun g hg => hw g (fun k hk => ?_)))
    rw [hg k]
    by_cases e : 4 * i ≤ k ∧ k < 4 * i + 2
    · rw [if_pos e]
      unfold ww_s0
      rw [if_pos (by omega), show k / 4 = i by omega, show k % 4 = k - 4 * i by omega]
    · rw [if_neg e, h k hk]
      unfold ww_s0
      by_cases e2 : k < 4 * i ∧ k % 4 < 2
      · rw [if_pos e2, if_pos (by omega)]
      · rw [if_neg e2, if_neg (by omega)]
theorem ww_start {post : St2 → Prop} {d : Nat} {Q : Nat → Nat → ww_F} {sg : Nat → ww_F} (hd : d ≤ 3) (hm : ww_mem d Q sg a1 a2 a3 a4 a5 a6)
    (H : ∀ g : Nat → Int32, (∀ k, k < 12 → g k = ww_z (ww_s0 d Q sg k)) → post (nI d, fw, fb, a1, a2, a3, a4, a5, a6, a7, a8, a9, a10, g, a12, a13)) : wpX_startRow post (nI d, fw, fb, a1, a2, a3, a4, a5, a6, a7, a8, a9, a10, a11, a12, a13) := by
  show ∃ n, wX_startRow_2 post (nI d) fw fb n 0 a1 a2 a3 a4 a5 a6 a7 a8 a9 a10 a11 a12 a13
  exact pk_loop (fun n i s => wX_startRow_2 post (nI d) fw fb n (nI i) a1 a2 a3 a4 a5 a6 a7 a8 a9 a10 s a12 a13) (fun i s => ∀ k, k < i → s k = 0) 12 0 a11 (by omega) (fun k hk => absurd hk (by omega))
    (fun n s h => pk_le 12 12 (fun _ => ww_sr23 hd hm h H) (fun z => absurd z (by omega)))
    (fun n i s hi h hw => pk_le 12 i (fun z => absurd z (by omega)) (fun _ => ⟨pk_in i 12 hi, nm_e (nm_r (nI_1 i) (hw _ (ww_fill (f := fun _ => 0) (nI_clamp (by omega)) h rfl)))⟩))
theorem ww_take {post : St2 → Prop} {j : Nat} {v : ww_V} (hj : j < 14) (h7 : ∀ k, k < 12 → a7 (12 * j + k) = ww_z (v k)) (H : ∀ g : Nat → Int32, (∀ k, k < 12 → g k = ww_z (v k)) → post (m, fw, fb, a1, a2, a3, a4, a5, a6, a7, a8, a9, a10, g, a12, a13)) : wpX_takeRow post (m, fw, fb, a1, a2, a3, a4, a5, a6, a7, a8, a9, a10, a11, a12, a13) (nI j) := by
  show ∃ n, wX_takeRow_2 post (nI j) m fw fb n 0 a1 a2 a3 a4 a5 a6 a7 a8 a9 a10 a11 a12 a13
  exact pk_loop (fun n i s => wX_takeRow_2 post (nI j) m fw fb n (nI i) a1 a2 a3 a4 a5 a6 a7 a8 a9 a10 s a12 a13) (fun i s => ∀ k, k < i → s k = ww_z (v k)) 12 0 a11 (by omega) (fun k hk => absurd hk (by omega))
    (fun n s h => pk_le 12 12 (fun _ => H s h) (fun z => absurd z (by omega)))
    (fun n i s hi h hw => pk_le 12 i (fun z => absurd z (by omega)) (fun _ => ⟨pk_in (12 * j + i) 168 (by omega) (ww_i12 j i), pk_in i 12 hi, nm_e (nm_r (nI_1 i) (hw _ (ww_fill (f := fun k => ww_z (v k)) (nI_clamp (by omega)) h (by rw [ww_i12, nI_clamp (by omega), h7 i hi]))))⟩))
theorem ww_m4 (d : Nat) : 4 * nI d = nI (4 * d) := by rw [show (4 : Int32) = nI 4 from rfl, pk_mul]
theorem ww_sh2 {k : Nat} (hk : k < 2 ^ 31) : nI k >>> ((2 : Int32) &&& 31) = nI (k / 4) := pk_shrN hk _ 2 (by decide)
theorem ww_an3 {k : Nat} (hk : k < 2 ^ 31) : nI k &&& 3 = nI (k % 4) := pk_andN (by omega) 2 (by decide)
theorem ww_endv {post : Int32 → Prop} {d : Nat} {Q : Nat → Nat → ww_F} {sg : Nat → ww_F} {v : ww_V} (hd : d ≤ 3) (hm : ww_mem d Q sg a1 a2 a3 a4 a5 a6) (h11 : ∀ k, k < 12 → a11 k = ww_z (v k)) (hs : ww_su d v) (H : post (ww_z (ww_E d Q v))) : wpX_endValue post (nI d, fw, fb, a1, a2, a3, a4, a5, a6, a7, a8, a9, a10, a11, a12, a13) := by
  show ∃ n, wX_endValue_4 post (nI d) fw fb a1 a2 a3 a4 a5 a6 a7 a8 a9 a10 a11 a12 a13 n 0 0
  refine pk_loop (fun n k s => wX_endValue_4 post (nI d) fw fb a1 a2 a3 a4 a5 a6 a7 a8 a9 a10 a11 a12 a13 n s (nI k)) (fun k s => s = ww_z (ww_ev Q v k)) (4 * d) 0 0 (by omega) rfl (fun n s h => ?_) (fun n k s hk h hw => ?_)
  · subst h
    exact pk_le (4 * d) (4 * d) (fun _ => H) (fun z => absurd z (by omega)) (ww_m4 d)
  · subst h
    obtain ⟨mu, hmu, h5, h6, hM⟩ := hm (k / 4) (by omega)
    have esh := ww_sh2 (show k < 2 ^ 31 by omega)
    have e5 : a5 (nI k >>> ((2 : Int32) &&& 31)).toNatClampNeg = nI mu := by rw [esh, nI_clamp (by omega), h5]
    have ix : 4 * a5 (nI k >>> ((2 : Int32) &&& 31)).toNatClampNeg + (nI k &&& 3) = nI (4 * mu + k % 4) := by rw [e5, ww_an3 (by omega), ww_i4]
    refine pk_le (4 * d) k (fun z => absurd z (by omega)) (fun _ => ⟨pk_in k 12 (by omega), pk_in (k / 4) 3 (by omega) esh, pk_in (4 * mu + k % 4) 12 (by omega) ix, by decide, nm_r (e' := ww_z (ww_ev Q v (k + 1))) ?_ (nm_r (nI_1 k) (hw _ rfl))⟩) (ww_m4 d)
    rw [ix, nI_clamp (show k < 2 ^ 31 by omega), nI_clamp (show 4 * mu + k % 4 < 2 ^ 31 by omega), h11 k (by omega)]
    by_cases e : k % 4 < 2
    · rw [hM.2.2.1 (k % 4) e, ww_mac]
      show _ = ww_z (ww_ev Q v k + (if k % 4 < 2 then v k * Q (k / 4) (2 + k % 4) else 0))
      rw [if_pos e]
    · rw [hs k (fun z => e z.2), ww_mac0]
      show _ = ww_z (ww_ev Q v k + (if k % 4 < 2 then v k * Q (k / 4) (2 + k % 4) else 0))
      rw [if_neg e, Fin.add_zero]
end
/-- what of the sums of a letter stands after k places -/
def ww_pa (Q : Nat → Nat → ww_F) (c : Nat) (v : ww_V) (k j : Nat) : ww_F := if j % 4 < 2 then (if 4 * (j / 4) < k then v (4 * (j / 4)) * Q (j / 4) (4 + 4 * c + j % 4) else 0) + (if 4 * (j / 4) + 1 < k then v (4 * (j / 4) + 1) * Q (j / 4) (4 + 4 * c + 2 + j % 4) else 0) else 0
theorem ww_pa_0 (Q : Nat → Nat → ww_F) (c : Nat) (v : ww_V) (j : Nat) : ww_pa Q c v 0 j = 0 := by
  unfold ww_pa
  rw [if_neg (show ¬ 4 * (j / 4) < 0 by omega), if_neg (show ¬ 4 * (j / 4) + 1 < 0 by omega)]
  split <;> rfl
theorem ww_pa_end (Q : Nat → Nat → ww_F) (c d : Nat) (v : ww_V) (j : Nat) : ww_pa Q c v (4 * d) j = ww_A d Q c v j := by
  unfold ww_pa ww_A
  by_cases h : j % 4 < 2
  · rw [if_pos h]
    by_cases h2 : j < 4 * d
    · rw [if_pos (show 4 * (j / 4) < 4 * d by omega), if_pos (show 4 * (j / 4) + 1 < 4 * d by omega), if_pos ⟨h2, h⟩]
    · rw [if_neg (show ¬ 4 * (j / 4) < 4 * d by omega), if_neg (show ¬ 4 * (j / 4) + 1 < 4 * d by omega), if_neg (fun z => h2 z.1)]
      rfl
  · rw [if_neg h, if_neg (fun z => h z.2)]
theorem ww_pa_s (Q : Nat → Nat → ww_F) (c : Nat) (v : ww_V) (k j : Nat) : ww_pa Q c v (k + 1) j = if k % 4 < 2 ∧ 4 * (k / 4) ≤ j ∧ j < 4 * (k / 4) + 2 then ww_pa Q c v k j + v k * Q (k / 4) (4 + 4 * c + 2 * (k % 4) + (j - 4 * (k / 4))) else ww_pa Q c v k j := by
  by_cases h : k % 4 < 2 ∧ 4 * (k / 4) ≤ j ∧ j < 4 * (k / 4) + 2
  · rw [if_pos h]
    unfold ww_pa
    have hj : j % 4 < 2 := by omega
    have e1 : j / 4 = k / 4 := by omega
    have e2 : j % 4 = j - 4 * (k / 4) := by omega
    rw [if_pos hj, if_pos hj, e1]
    by_cases h0 : k % 4 = 0
    · rw [if_pos (show 4 * (k / 4) < k + 1 by omega), if_neg (show ¬ 4 * (k / 4) + 1 < k + 1 by omega), if_neg (show ¬ 4 * (k / 4) < k by omega), if_neg (show ¬ 4 * (k / 4) + 1 < k by omega), show 4 * (k / 4) = k by omega, show 4 + 4 * c + j % 4 = 4 + 4 * c + 2 * (k % 4) + (j - k) by omega]
      generalize v k * Q (k / 4) (4 + 4 * c + 2 * (k % 4) + (j - k)) = x
      grind
    · rw [if_pos (show 4 * (k / 4) < k + 1 by omega), if_pos (show 4 * (k / 4) + 1 < k + 1 by omega), if_pos (show 4 * (k / 4) < k by omega), if_neg (show ¬ 4 * (k / 4) + 1 < k by omega), show 4 * (k / 4) + 1 = k by omega, show 4 + 4 * c + 2 + j % 4 = 4 + 4 * c + 2 * (k % 4) + (j - 4 * (k / 4)) by omega]
      generalize v k * Q (k / 4) (4 + 4 * c + 2 * (k % 4) + (j - 4 * (k / 4))) = x
      generalize v (4 * (k / 4)) * Q (k / 4) (4 + 4 * c + j % 4) = y
      grind
  · rw [if_neg h]
    unfold ww_pa
    by_cases hj : j % 4 < 2
    · rw [if_pos hj, if_pos hj]
      have c1 : (4 * (j / 4) < k + 1) = (4 * (j / 4) < k) := propext (by omega)
      have c2 : (4 * (j / 4) + 1 < k + 1) = (4 * (j / 4) + 1 < k) := propext (by omega)
      simp only [c1, c2]
    · rw [if_neg hj, if_neg hj]
section
variable {a1 a2 a3 a4 a5 a6 a7 a8 a9 a10 a11 a12 a13 : Nat → Int32}
variable {m fw fb : Int32}
theorem ww_ad53 {post : St2 → Prop} {J : Int32 → (Nat → Int32) → (Nat → Int32) → (Nat → Int32) → (Nat → Int32) → (Nat → Int32) → (Nat → Int32) → (Nat → Int32) → (Nat → Int32) → (Nat → Int32) → (Nat → Int32) → (Nat → Int32) → (Nat → Int32) → (Nat → Int32) → Prop} {c k i p mu : Nat} {P : Nat → ww_F} {t : ww_V} {x : ww_F} (hc : c < 2) (hk : k < 12) (hi : i < 3) (hp : p < 4) (hmu : mu < 3) (hM : ww_M a1 a2 a3 a4 mu P) (h11 : a11 k = ww_z x) (h12 : ∀ j, j < 12 → a12 j = ww_z (t j))
    (H : ∀ g : Nat → Int32, (∀ j, j < 12 → g j = ww_z (if p < 2 ∧ 4 * i ≤ j ∧ j < 4 * i + 2 then t j + x * P (4 + 4 * c + 2 * p + (j - 4 * i)) else t j)) → J (nI (k + 1)) a1 a2 a3 a4 a5 a6 a7 a8 a9 a10 a11 g a13) : ∃ n, wX_advance_53 post J (nI c) (nI k) (nI i) (nI p) (nI mu) m fw fb n 0 a1 a2 a3 a4 a5 a6 a7 a8 a9 a10 a11 a12 a13 := by
  have e1 : a1 (nI mu).toNatClampNeg = nI 2 := by rw [nI_clamp (by omega), hM.1]
  by_cases hp2 : p < 2
  · refine pk_loop (fun n q s => wX_advance_53 post J (nI c) (nI k) (nI i) (nI p) (nI mu) m fw fb n (nI q) a1 a2 a3 a4 a5 a6 a7 a8 a9 a10 a11 s a13) (fun q s => ∀ j, j < 12 → s j = ww_z (if 4 * i ≤ j ∧ j < 4 * i + q then t j + x * P (4 + 4 * c + 2 * p + (j - 4 * i)) else t j)) 2 0 a12 (by omega) (fun j hj => ?_) (fun n s h => ?_) (fun n q s hq h hw => ?_)
    · rw [if_neg (by omega)]
      exact h12 j hj
    · refine And.intro (pk_in mu 3 hmu) (pk_le 2 2 (fun _ => nm_r (nI_1 k) (H s (fun j hj => ?_))) (fun z => absurd z (by omega)) e1)
      rw [h j hj]
      by_cases e : 4 * i ≤ j ∧ j < 4 * i + 2
      · rw [if_pos e, if_pos ⟨hp2, e⟩]
      · rw [if_neg e, if_neg (fun z => e z.2)]
    · have ix : ((32 * nI mu + 16 * nI c) + 4 * nI p) + nI q = nI (32 * mu + 16 * c + 4 * p + q) := ww_iad mu c p q
      have hsq : s (4 * i + q) = ww_z (t (4 * i + q)) := by rw [h _ (by omega), if_neg (by omega)]
      refine And.intro (pk_in mu 3 hmu) (pk_le 2 q (fun z => absurd z (by omega)) (fun _ => ⟨pk_in mu 3 hmu, pk_le 2 p (fun z => absurd z (by omega)) (fun _ => ⟨pk_in k 12 hk, pk_in (32 * mu + 16 * c + 4 * p + q) 96 (by omega) ix, nm_r (e' := ww_z x * ww_z (P (4 + 4 * c + 2 * p + q))) ?_ ⟨pk_in (4 * i + q) 12 (by omega) (ww_i4 i q), by decide, pk_in (4 * i + q) 12 (by omega) (ww_i4 i q), nm_r (e' := upd s (4 * i + q) (ww_z (t (4 * i + q) + x * P (4 + 4 * c + 2 * p + q)))) ?_ (nm_r (nI_1 q) (hw _ (fun j hj => ?_)))⟩⟩) e1⟩) e1)
      · rw [ix, nI_clamp (show k < 2 ^ 31 by omega), nI_clamp (show 32 * mu + 16 * c + 4 * p + q < 2 ^ 31 by omega), h11, hM.2.2.2 c p q hc hp2 hq]
      · rw [ww_i4, nI_clamp (show 4 * i + q < 2 ^ 31 by omega), hsq, ww_mac]
      · by_cases e : j = 4 * i + q
        · rw [e, pk_us, if_pos (by omega), show 4 * i + q - 4 * i = q by omega]
        · rw [pk_un e, h j hj]
          by_cases e2 : 4 * i ≤ j ∧ j < 4 * i + q
          · rw [if_pos e2, if_pos (by omega)]
          · rw [if_neg e2, if_neg (by omega)]
  · refine ⟨1, And.intro (pk_in mu 3 hmu) (pk_le 2 0 (fun z => absurd z (by omega)) (fun _ => ⟨pk_in mu 3 hmu, pk_le 2 p (fun _ => nm_r (nI_1 k) (H a12 (fun j hj => ?_))) (fun z => absurd z (by omega)) e1⟩) e1)⟩
    rw [if_neg (fun z => hp2 z.1)]
    exact h12 j hj
theorem ww_adv {post : St2 → Prop} {c d : Nat} {Q : Nat → Nat → ww_F} {sg : Nat → ww_F} {v : ww_V} (hc : c < 2) (hd : d ≤ 3) (hm : ww_mem d Q sg a1 a2 a3 a4 a5 a6) (h11 : ∀ k, k < 12 → a11 k = ww_z (v k))
    (H : ∀ g h : Nat → Int32, (∀ k, k < 12 → g k = ww_z (ww_A d Q c v k)) → post (nI d, fw, fb, a1, a2, a3, a4, a5, a6, a7, a8, a9, a10, g, h, a13)) : wpX_advance post (nI d, fw, fb, a1, a2, a3, a4, a5, a6, a7, a8, a9, a10, a11, a12, a13) (nI c) := by
  have c152 : ∀ s : Nat → Int32, (∀ j, j < 12 → s j = ww_z (ww_A d Q c v j)) → ∃ n, wX_advance_152 post (nI d) fw fb n 0 a1 a2 a3 a4 a5 a6 a7 a8 a9 a10 a11 s a13 := fun s hs =>
    pk_loop (fun n i g => wX_advance_152 post (nI d) fw fb n (nI i) a1 a2 a3 a4 a5 a6 a7 a8 a9 a10 g s a13) (fun i g => ∀ k, k < i → g k = ww_z (ww_A d Q c v k)) 12 0 a11 (by omega) (fun k hk => absurd hk (by omega))
      (fun n g h => pk_le 12 12 (fun _ => H g s h) (fun z => absurd z (by omega)))
      (fun n i g hi h hw => pk_le 12 i (fun z => absurd z (by omega)) (fun _ => ⟨pk_in i 12 hi, pk_in i 12 hi, nm_e (nm_r (nI_1 i) (hw _ (ww_fill (f := fun k => ww_z (ww_A d Q c v k)) (nI_clamp (by omega)) h (by rw [nI_clamp (by omega), hs i hi]))))⟩))
  have c23 : ∀ s : Nat → Int32, (∀ j, j < 12 → s j = 0) → ∃ n, wX_advance_23 post (nI c) (nI d) fw fb n 0 a1 a2 a3 a4 a5 a6 a7 a8 a9 a10 a11 s a13 := by
    intro s hs
    refine pk_loop (fun n k g => wX_advance_23 post (nI c) (nI d) fw fb n (nI k) a1 a2 a3 a4 a5 a6 a7 a8 a9 a10 a11 g a13) (fun k g => ∀ j, j < 12 → g j = ww_z (ww_pa Q c v k j)) (4 * d) 0 s (by omega) (fun j hj => ?_) (fun n g h => ?_) (fun n k g hk h hw => ?_)
    · rw [hs j hj, ww_pa_0]
      rfl
    · exact pk_le (4 * d) (4 * d) (fun _ => c152 g (fun j hj => by rw [h j hj, ww_pa_end])) (fun z => absurd z (by omega)) (ww_m4 d)
    · obtain ⟨mu, hmu, h5, h6, hM⟩ := hm (k / 4) (by omega)
      have e5 : a5 (nI (k / 4)).toNatClampNeg = nI mu := by rw [nI_clamp (by omega), h5]
      exact pk_le (4 * d) k (fun z => absurd z (by omega)) (fun _ => nm_r (ww_sh2 (by omega)) (nm_r (ww_an3 (by omega)) ⟨pk_in (k / 4) 3 (by omega), nm_r e5 (ww_ad53 hc (by omega) (by omega) (by omega) hmu hM (h11 k (by omega)) h (fun g' hg' => hw g' (fun j hj => by rw [hg' j hj, ww_pa_s])))⟩)) (ww_m4 d)
  show ∃ n, wX_advance_2 post (nI c) (nI d) fw fb n 0 a1 a2 a3 a4 a5 a6 a7 a8 a9 a10 a11 a12 a13
  exact pk_loop (fun n i s => wX_advance_2 post (nI c) (nI d) fw fb n (nI i) a1 a2 a3 a4 a5 a6 a7 a8 a9 a10 a11 s a13) (fun i s => ∀ k, k < i → s k = 0) 12 0 a12 (by omega) (fun k hk => absurd hk (by omega))
    (fun n s h => pk_le 12 12 (fun _ => c23 s h) (fun z => absurd z (by omega)))
    (fun n i s hi h hw => pk_le 12 i (fun z => absurd z (by omega)) (fun _ => ⟨pk_in i 12 hi, nm_e (nm_r (nI_1 i) (hw _ (ww_fill (f := fun _ => 0) (nI_clamp (by omega)) h rfl)))⟩))
end
end
section
/-! powers: the inverse as the class takes it -/
def ww_pw (x : ww_F) (e : Nat) : ww_F := ⟨x.val ^ e % 997, Nat.mod_lt _ (by decide)⟩
theorem ww_pw_add (x : ww_F) (e f : Nat) : ww_pw x e * ww_pw x f = ww_pw x (e + f) := by
  apply Fin.ext
  rw [Fin.val_mul]
  show (x.val ^ e % 997) * (x.val ^ f % 997) % 997 = x.val ^ (e + f) % 997
  rw [← Nat.mul_mod, Nat.pow_add]
theorem ww_pw_0 (x : ww_F) : ww_pw x 0 = 1 := by
  apply Fin.ext
  show x.val ^ 0 % 997 = 1
  rw [Nat.pow_zero]
theorem ww_pw_1 (x : ww_F) : ww_pw x 1 = x := by
  apply Fin.ext
  show x.val ^ 1 % 997 = x.val
  rw [Nat.pow_one, Nat.mod_eq_of_lt x.isLt]
theorem ww_bit995 : ∀ t, t < 10 → (((995 : Int32) >>> (nI t &&& 31)) &&& 1) = nI (995 / 2 ^ t % 2) := by decide +kernel
theorem ww_b995 : ∀ t, t < 10 → 995 / 2 ^ t % 2 = 1 → 995 % 2 ^ (t + 1) = 995 % 2 ^ t + 2 ^ t := by decide +kernel
theorem ww_n995 : ∀ t, t < 10 → 995 / 2 ^ t % 2 ≠ 1 → 995 % 2 ^ (t + 1) = 995 % 2 ^ t := by decide +kernel
theorem ww_inverse {post : Int32 → Prop} {x : ww_F} (H : post (ww_z (ww_inv x))) : wpX_inverse post () (ww_z x) := by
  show ∃ n, wX_inverse_11 post 995 n 1 (ww_z x) 0
  refine pk_loop (σ := Int32 × Int32) (fun n t s => wX_inverse_11 post 995 n s.1 s.2 (nI t)) (fun t s => s = (ww_z (ww_pw x (995 % 2 ^ t)), ww_z (ww_pw x (2 ^ t)))) 10 0 (1, ww_z x) (by omega) ?_ (fun n s h => ?_) (fun n t s ht h hw => ?_)
  · show (1, ww_z x) = (ww_z (ww_pw x 0), ww_z (ww_pw x 1))
    rw [ww_pw_0, ww_pw_1]
    rfl
  · subst h
    exact pk_le 10 10 (fun _ => H) (fun z => absurd z (by omega))
  · subst h
    have e2 : ww_z (ww_pw x (2 ^ t)) * ww_z (ww_pw x (2 ^ t)) - ww_z (ww_pw x (2 ^ t)) * ww_z (ww_pw x (2 ^ t)) / 997 * 997 = ww_z (ww_pw x (2 ^ (t + 1))) := by
      rw [ww_mul, ww_pw_add, Nat.pow_succ, Nat.mul_two]
    refine pk_le 10 t (fun z => absurd z (by omega)) (fun _ => pk_eq (995 / 2 ^ t % 2) 1 (fun e => ⟨by decide, nm_r (e' := ww_z (ww_pw x (995 % 2 ^ (t + 1)))) ?_ ?_⟩) (fun e => ?_) (ww_bit995 t ht))
    · rw [ww_mul, ww_pw_add, ww_b995 t ht e]
    · exact And.intro (by decide) (nm_r e2 (nm_r (nI_1 t) (hw (ww_z (ww_pw x (995 % 2 ^ (t + 1))), ww_z (ww_pw x (2 ^ (t + 1)))) rfl)))
    · refine And.intro (by decide) (nm_r e2 (nm_r (nI_1 t) (hw (ww_z (ww_pw x (995 % 2 ^ t)), ww_z (ww_pw x (2 ^ (t + 1)))) ?_)))
      rw [ww_n995 t ht e]
theorem ww_fd (y : ww_V) (m : Nat) : ∃ d, d ≤ m ∧ (∀ j, j < d → y j = 0) ∧ (d < m → y d ≠ 0) := by
  induction m with
  | zero => exact ⟨0, Nat.le_refl 0, fun j h => absurd h (by omega), fun h => absurd h (by omega)⟩
  | succ m ih =>
    obtain ⟨d, h1, h2, h3⟩ := ih
    by_cases hd : d < m
    · exact ⟨d, by omega, h2, fun _ => h3 hd⟩
    · by_cases he : y d = 0
      · refine ⟨d + 1, by omega, fun j hj => ?_, fun h => absurd h (by omega)⟩
        by_cases e : j = d
        · rw [e, he]
        · exact h2 j (by omega)
      · exact ⟨d, by omega, h2, fun _ => he⟩
section
variable {a1 a2 a3 a4 a5 a6 a7 a8 a9 a10 a11 a12 a13 : Nat → Int32}
variable {m fw fb : Int32}
theorem ww_eb149 {post : Int32 → St2 → Prop} {n p : Nat} {y : ww_V} {b : ww_F} (hn : n < 14) (h12 : ∀ k, k < 12 → a12 k = ww_z (y k))
    (H : ∀ g : Nat → Int32, (∀ j, j < 12 * n → g j = a9 j) → (∀ k, k < 12 → g (12 * n + k) = ww_z (y k * b)) → post 1 (m, fw, nI (n + 1), a1, a2, a3, a4, a5, a6, a7, a8, g, upd a10 n (nI p), a11, a12, a13)) : ∃ f, wX_enterBasis_149 post (nI p) (ww_z b) m fw (nI n) f 0 a1 a2 a3 a4 a5 a6 a7 a8 a9 a10 a11 a12 a13 := by
  refine pk_loop (fun f i s => wX_enterBasis_149 post (nI p) (ww_z b) m fw (nI n) f (nI i) a1 a2 a3 a4 a5 a6 a7 a8 s a10 a11 a12 a13) (fun i s => (∀ j, j < 12 * n → s j = a9 j) ∧ ∀ k, k < i → s (12 * n + k) = ww_z (y k * b)) 12 0 a9 (by omega) ⟨fun _ _ => rfl, fun k hk => absurd hk (by omega)⟩ (fun f s h => ?_) (fun f i s hi h hw => ?_)
  · exact pk_le 12 12 (fun _ => ⟨pk_in n 14 hn, nm_r (e' := upd a10 n (nI p)) (by rw [nI_clamp (by omega)]) (nm_r (nI_1 n) (H s h.1 h.2))⟩) (fun z => absurd z (by omega))
  · refine pk_le 12 i (fun z => absurd z (by omega)) (fun _ => ⟨pk_in i 12 hi, by decide, pk_in (12 * n + i) 168 (by omega) (ww_i12 n i), nm_r (e' := upd s (12 * n + i) (ww_z (y i * b))) ?_ (nm_r (nI_1 i) (hw _ ⟨fun j hj => ?_, fun k hk => ?_⟩))⟩)
    · rw [ww_i12, nI_clamp (show 12 * n + i < 2 ^ 31 by omega), nI_clamp (show i < 2 ^ 31 by omega), h12 i hi, ww_mul]
    · rw [pk_un (by omega)]
      exact h.1 j hj
    · by_cases e : k = i
      · rw [e, pk_us]
      · rw [pk_un (by omega)]
        exact h.2 k (by omega)
theorem ww_eb50 {post : Int32 → St2 → Prop} {J : Int32 → (Nat → Int32) → (Nat → Int32) → (Nat → Int32) → (Nat → Int32) → (Nat → Int32) → (Nat → Int32) → (Nat → Int32) → (Nat → Int32) → (Nat → Int32) → (Nat → Int32) → (Nat → Int32) → (Nat → Int32) → (Nat → Int32) → Prop} {b : Nat} {f : ww_F} {x r : ww_V} (hb : b < 14) (h9 : ∀ k, k < 12 → a9 (12 * b + k) = ww_z (r k)) (h12 : ∀ k, k < 12 → a12 k = ww_z (x k))
    (H : ∀ g : Nat → Int32, (∀ k, k < 12 → g k = ww_z (x k - f * r k)) → J (nI (b + 1)) a1 a2 a3 a4 a5 a6 a7 a8 a9 a10 a11 g a13) : ∃ n, wX_enterBasis_50 post J (nI b) (ww_z f) m fw fb n 0 a1 a2 a3 a4 a5 a6 a7 a8 a9 a10 a11 a12 a13 := by
  by_cases hf : f = 0
  · refine ⟨1, pk_le 12 0 (fun z => absurd z (by omega)) (fun _ => br_t ((ww_iff0 f).mpr hf) (nm_r (nI_1 b) (H a12 (fun k hk => ?_))))⟩
    rw [h12 k hk, hf]
    congr 1
    generalize x k = y1
    generalize r k = y2
    grind
  · have hz : ¬ ww_z f = 0 := fun z => hf ((ww_iff0 f).mp z)
    refine pk_loop (fun n i s => wX_enterBasis_50 post J (nI b) (ww_z f) m fw fb n (nI i) a1 a2 a3 a4 a5 a6 a7 a8 a9 a10 a11 s a13) (fun i s => ∀ k, k < 12 → s k = ww_z (if k < i then x k - f * r k else x k)) 12 0 a12 (by omega) (fun k hk => ?_) (fun n s h => ?_) (fun n i s hi h hw => ?_)
    · rw [if_neg (by omega)]
      exact h12 k hk
    · refine pk_le 12 12 (fun _ => nm_r (nI_1 b) (H s (fun k hk => ?_))) (fun z => absurd z (by omega))
      rw [h k hk, if_pos hk]
    · refine pk_le 12 i (fun z => absurd z (by omega)) (fun _ => br_f hz ⟨pk_in i 12 hi, pk_in (12 * b + i) 168 (by omega) (ww_i12 b i), by decide, pk_in i 12 hi, nm_r (e' := upd s i (ww_z (x i - f * r i))) ?_ (nm_r (nI_1 i) (hw _ (fun k hk => ?_)))⟩)
      · rw [ww_i12, nI_clamp (show 12 * b + i < 2 ^ 31 by omega), nI_clamp (show i < 2 ^ 31 by omega), h i hi, if_neg (by omega), h9 i hi, ww_msub]
      · by_cases e : k = i
        · rw [e, pk_us, if_pos (by omega)]
        · rw [pk_un e, h k hk]
          by_cases e2 : k < i
          · rw [if_pos e2, if_pos (by omega)]
          · rw [if_neg e2, if_neg (by omega)]
theorem ww_ent0 {post : Int32 → St2 → Prop} {n : Nat} {R : Nat → ww_V} {pv : Nat → Nat} {v : ww_V} (hn : n < 14) (h9 : ∀ b, b < n → ∀ k, k < 12 → a9 (12 * b + k) = ww_z (R b k)) (h10 : ∀ b, b < n → a10 b = nI (pv b) ∧ pv b < 12) (h11 : ∀ k, k < 12 → a11 k = ww_z (v k))
    (H0 : (∀ k, k < 12 → ww_red R pv n v k = 0) → ∀ g : Nat → Int32, post 0 (m, fw, nI n, a1, a2, a3, a4, a5, a6, a7, a8, a9, a10, a11, g, a13))
    (H1 : ∀ p, p < 12 → ww_red R pv n v p ≠ 0 → ∀ g9 g12 : Nat → Int32, (∀ j, j < 12 * n → g9 j = a9 j) → (∀ k, k < 12 → g9 (12 * n + k) = ww_z (ww_red R pv n v k * ww_inv (ww_red R pv n v p))) → post 1 (m, fw, nI (n + 1), a1, a2, a3, a4, a5, a6, a7, a8, g9, upd a10 n (nI p), a11, g12, a13)) :
    wpX_enterBasis post (m, fw, nI n, a1, a2, a3, a4, a5, a6, a7, a8, a9, a10, a11, a12, a13) := by
  have c108 : ∀ s : Nat → Int32, (∀ k, k < 12 → s k = ww_z (ww_red R pv n v k)) → ∃ f, wX_enterBasis_108 post m fw (nI n) a1 a2 a3 a4 a5 a6 a7 a8 a9 a10 a11 s a13 f 0 := by
    intro s hs
    obtain ⟨d, d1, d2, d3⟩ := ww_fd (ww_red R pv n v) 12
    have ed : d < 12 → s (nI d).toNatClampNeg = ww_z (ww_red R pv n v d) := fun z => by rw [nI_clamp (by omega), hs d z]
    have c129 : wX_enterBasis_129 post (nI d) m fw (nI n) a1 a2 a3 a4 a5 a6 a7 a8 a9 a10 a11 s a13 := by
      refine pk_eq d 12 (fun e => H0 (fun k hk => d2 k (by omega)) s) (fun e => ⟨pk_in d 12 (by omega), ?_⟩)
      rw [ed (by omega)]
      exact ww_inverse (ww_eb149 hn hs (fun g g1 g2 => H1 d (by omega) (d3 (by omega)) g s g1 g2))
    refine pk_loop (σ := Unit) (fun f i _ => wX_enterBasis_108 post m fw (nI n) a1 a2 a3 a4 a5 a6 a7 a8 a9 a10 a11 s a13 f (nI i)) (fun _ _ => True) d 0 () (by omega) trivial (fun f _ _ => ?_) (fun f i _ hi _ hw => ?_)
    · exact pk_le 12 d (fun _ => c129) (fun z => ⟨pk_in d 12 z, br_f (fun q => d3 z ((ww_iff0 _).mp ((ed z).symm.trans q))) c129⟩)
    · refine pk_le 12 i (fun z => absurd z (by omega)) (fun z => ⟨pk_in i 12 z, br_t ?_ (nm_r (nI_1 i) (hw () trivial))⟩)
      rw [nI_clamp (by omega), hs i z, d2 i hi]
      rfl
  have c28 : ∀ s : Nat → Int32, (∀ k, k < 12 → s k = ww_z (v k)) → ∃ f, wX_enterBasis_28 post m fw (nI n) f 0 a1 a2 a3 a4 a5 a6 a7 a8 a9 a10 a11 s a13 := by
    intro s hs
    refine pk_loop (fun f b g => wX_enterBasis_28 post m fw (nI n) f (nI b) a1 a2 a3 a4 a5 a6 a7 a8 a9 a10 a11 g a13) (fun b g => ∀ k, k < 12 → g k = ww_z (ww_red R pv b v k)) n 0 s (by omega) hs (fun f g h => ?_) (fun f b g hb h hw => ?_)
    · exact pk_le n n (fun _ => c108 g h) (fun z => absurd z (by omega))
    · have e10 : a10 (nI b).toNatClampNeg = nI (pv b) := by rw [nI_clamp (by omega), (h10 b hb).1]
      have hp := (h10 b hb).2
      refine pk_le n b (fun z => absurd z (by omega)) (fun _ => ⟨pk_in b 14 (by omega), pk_in (pv b) 12 hp e10, nm_r (e' := ww_z (ww_red R pv b v (pv b))) ?_ (ww_eb50 (by omega) (h9 b hb) h (fun g' hg' => hw g' hg'))⟩)
      rw [e10, nI_clamp (by omega), h (pv b) hp]
  show ∃ f, wX_enterBasis_2 post m fw (nI n) f 0 a1 a2 a3 a4 a5 a6 a7 a8 a9 a10 a11 a12 a13
  exact pk_loop (fun f i s => wX_enterBasis_2 post m fw (nI n) f (nI i) a1 a2 a3 a4 a5 a6 a7 a8 a9 a10 a11 s a13) (fun i s => ∀ k, k < i → s k = ww_z (v k)) 12 0 a12 (by omega) (fun k hk => absurd hk (by omega))
    (fun f s h => pk_le 12 12 (fun _ => c28 s h) (fun z => absurd z (by omega)))
    (fun f i s hi h hw => pk_le 12 i (fun z => absurd z (by omega)) (fun _ => ⟨pk_in i 12 hi, pk_in i 12 hi, nm_e (nm_r (nI_1 i) (hw _ (ww_fill (f := fun k => ww_z (v k)) (nI_clamp (by omega)) h (by rw [nI_clamp (by omega), h11 i hi]))))⟩))
theorem ww_enter {post : Int32 → St2 → Prop} {d n : Nat} {R : Nat → ww_V} {pv : Nat → Nat} {v : ww_V} (hd : d ≤ 3) (hB : ww_bas d n R pv a9 a10) (hv : ww_su d v) (h11 : ∀ k, k < 12 → a11 k = ww_z (v k))
    (H0 : ww_sp (ww_fam R n) v → ∀ g : Nat → Int32, post 0 (m, fw, nI n, a1, a2, a3, a4, a5, a6, a7, a8, a9, a10, a11, g, a13))
    (H1 : ∀ (R' : Nat → ww_V) (pv' : Nat → Nat) (g9 g10 g12 : Nat → Int32), (∀ b, b < n → R' b = R b) → ww_bas d (n + 1) R' pv' g9 g10 → ww_sp (fun u => ww_fam R n u ∨ u = v) (R' n) → ww_sp (ww_fam R' (n + 1)) v → ¬ ww_sp (ww_fam R n) v → post 1 (m, fw, nI (n + 1), a1, a2, a3, a4, a5, a6, a7, a8, g9, g10, a11, g12, a13)) :
    wpX_enterBasis post (m, fw, nI n, a1, a2, a3, a4, a5, a6, a7, a8, a9, a10, a11, a12, a13) := by
  have hle := ww_bas_le hB
  have hsu : ww_su d (ww_red R pv n v) := (ww_red_P (ww_su_lin d) (pv := pv) (fun b hb => (hB.2 b hb).2.2.2) v n (Nat.le_refl n)).mpr hv
  refine ww_ent0 (R := R) (pv := pv) (v := v) (by omega) (fun b hb => (hB.2 b hb).1) (fun b hb => ⟨(hB.2 b hb).2.1, (hB.2 b hb).2.2.1⟩) h11 (fun h0 g => H0 (ww_red_in (pv := pv) (fun k => ?_)) g) (fun p hp hne g9 g12 h9a h9b => ?_)
  · by_cases e : k < 12
    · exact h0 k e
    · exact hsu k (fun z => by have := z.1; omega)
  · have hinv := ww_inv_ok hne
    have hR : ∀ b, b < n → (fun b => if b = n then (fun k => ww_inv (ww_red R pv n v p) * ww_red R pv n v k) else R b : Nat → ww_V) b = R b := fun b hb => if_neg (by omega)
    have hRn : (fun b => if b = n then (fun k => ww_inv (ww_red R pv n v p) * ww_red R pv n v k) else R b : Nat → ww_V) n = fun k => ww_inv (ww_red R pv n v p) * ww_red R pv n v k := if_pos rfl
    have hpv : ∀ b, b < n → (fun b => if b = n then p else pv b : Nat → Nat) b = pv b := fun b hb => if_neg (by omega)
    have hpn : (fun b => if b = n then p else pv b : Nat → Nat) n = p := if_pos rfl
    revert hR hRn hpv hpn
    generalize (fun b => if b = n then (fun k => ww_inv (ww_red R pv n v p) * ww_red R pv n v k) else R b : Nat → ww_V) = R'
    generalize (fun b => if b = n then p else pv b : Nat → Nat) = pv'
    intro hR hRn hpv hpn
    refine H1 R' pv' g9 _ g12 hR ⟨fun b hb => ?_, fun b hb => ?_⟩ ?_ ?_ (fun z => hne (ww_red_sp hB.1 z p))
    · by_cases e : b = n
      · rw [e, hRn, hpn]
        refine ⟨?_, fun c hc => ?_⟩
        · show ww_inv (ww_red R pv n v p) * ww_red R pv n v p = 1
          rw [Fin.mul_comm]
          exact hinv
        · rw [hpv c hc]
          show ww_inv (ww_red R pv n v p) * ww_red R pv n v (pv c) = 0
          rw [ww_red_piv hB.1 v n (Nat.le_refl n) c hc]
          exact Fin.mul_zero _
      · rw [hR b (by omega), hpv b (by omega)]
        refine ⟨(hB.1 b (by omega)).1, fun c hc => ?_⟩
        rw [hpv c (by omega)]
        exact (hB.1 b (by omega)).2 c hc
    · by_cases e : b = n
      · rw [e, hRn, hpn, pk_us]
        refine ⟨fun k hk => ?_, rfl, hp, fun k hk => ?_⟩
        · rw [h9b k hk, Fin.mul_comm]
        · show ww_inv (ww_red R pv n v p) * ww_red R pv n v k = 0
          rw [hsu k hk]
          exact Fin.mul_zero _
      · rw [hR b (by omega), hpv b (by omega), pk_un e]
        have hh := hB.2 b (by omega)
        refine ⟨fun k hk => ?_, hh.2.1, hh.2.2.1, hh.2.2.2⟩
        rw [h9a (12 * b + k) (by omega)]
        exact hh.1 k hk
    · rw [hRn]
      refine ww_smul (ww_sp_lin _) _ ((ww_red_P (ww_sp_lin _) (pv := pv) (fun b hb => ww_sp_in (Or.inl ⟨b, hb, rfl⟩)) v n (Nat.le_refl n)).mpr (ww_sp_in (Or.inr rfl)))
    · refine (ww_red_P (ww_sp_lin (ww_fam R' (n + 1))) (R := R) (pv := pv) (fun b hb => ?_) v n (Nat.le_refl n)).mp ?_
      · rw [← hR b hb]
        exact ww_fam_in (by omega)
      · have hs := ww_smul (ww_sp_lin (ww_fam R' (n + 1))) (ww_red R pv n v p) (ww_fam_in (K := R') (show n < n + 1 by omega))
        rw [hRn] at hs
        rw [show ww_red R pv n v = (fun k => ww_red R pv n v p * (fun k => ww_inv (ww_red R pv n v p) * ww_red R pv n v k) k) from funext fun k => ?_]
        · exact hs
        · show ww_red R pv n v k = ww_red R pv n v p * (ww_inv (ww_red R pv n v p) * ww_red R pv n v k)
          revert hinv
          generalize ww_inv (ww_red R pv n v p) = x1
          generalize ww_red R pv n v p = x2
          generalize ww_red R pv n v k = x3
          intro hi
          grind
end
/-- the rows that wait, and the basis of them -/
def ww_Q (d n : Nat) (K : Nat → ww_V) (a7 a9 a10 : Nat → Int32) : Prop := ∃ (R : Nat → ww_V) (pv : Nat → Nat), ww_bas d n R pv a9 a10 ∧ (∀ j, j < n → (∀ k, k < 12 → a7 (12 * j + k) = ww_z (K j k)) ∧ ww_su d (K j)) ∧ (∀ b, b < n → ww_sp (ww_fam K n) (R b))
theorem ww_Q_le {d n : Nat} {K : Nat → ww_V} {a7 a9 a10 : Nat → Int32} (h : ww_Q d n K a7 a9 a10) : n ≤ 2 * d := by
  obtain ⟨R, pv, hB, _, _⟩ := h
  exact ww_bas_le hB
theorem ww_Q_0 (d : Nat) (K : Nat → ww_V) (a7 a9 a10 : Nat → Int32) : ww_Q d 0 K a7 a9 a10 := ⟨fun _ _ => 0, fun _ => 0, ⟨fun b hb => absurd hb (by omega), fun b hb => absurd hb (by omega)⟩, fun b hb => absurd hb (by omega), fun b hb => absurd hb (by omega)⟩
section
variable {a1 a2 a3 a4 a5 a6 a7 a8 a9 a10 a11 a12 a13 : Nat → Int32}
variable {m fw fb : Int32}
theorem ww_keep {post : St2 → Prop} {d n : Nat} {K : Nat → ww_V} {v : ww_V} {x : Int32} (hd : d ≤ 3) (hQ : ww_Q d n K a7 a9 a10) (hv : ww_su d v) (h11 : ∀ k, k < 12 → a11 k = ww_z (v k))
    (H0 : ww_sp (ww_fam K n) v → ∀ g : Nat → Int32, post (m, nI n, nI n, a1, a2, a3, a4, a5, a6, a7, a8, a9, a10, a11, g, a13))
    (H1 : ∀ (K' : Nat → ww_V) (g7 g9 g10 g12 : Nat → Int32), (∀ j, j < n → K' j = K j) → K' n = v → ww_Q d (n + 1) K' g7 g9 g10 → post (m, nI (n + 1), nI (n + 1), a1, a2, a3, a4, a5, a6, g7, upd a8 n x, g9, g10, a11, g12, a13)) :
    wpX_keepRow post (m, nI n, nI n, a1, a2, a3, a4, a5, a6, a7, a8, a9, a10, a11, a12, a13) x := by
  have hle := ww_Q_le hQ
  obtain ⟨R, pv, hB, hK, hR⟩ := hQ
  unfold wpX_keepRow
  refine ww_enter hd hB hv h11 (fun hs g => ?_) (fun R' pv' g9 g10 g12 hR' hB' hs1 hs2 hs3 => ?_)
  · exact br_t rfl (H0 (ww_fam_of hR hs) g)
  · refine br_f (by decide) ?_
    refine pk_loop (fun f i s => wX_keepRow_11 post x m (nI n) (nI (n + 1)) f (nI i) a1 a2 a3 a4 a5 a6 s a8 g9 g10 a11 g12 a13) (fun i s => (∀ j, j < 12 * n → s j = a7 j) ∧ ∀ k, k < i → s (12 * n + k) = ww_z (v k)) 12 0 a7 (by omega) ⟨fun _ _ => rfl, fun k hk => absurd hk (by omega)⟩ (fun f s h => ?_) (fun f i s hi h hw => ?_)
    · have hKn : ∀ b, b < n → (fun j => if j = n then v else K j : Nat → ww_V) b = K b := fun b hb => if_neg (by omega)
      have hKv : (fun j => if j = n then v else K j : Nat → ww_V) n = v := if_pos rfl
      revert hKn hKv
      generalize (fun j => if j = n then v else K j : Nat → ww_V) = K'
      intro hKn hKv
      refine pk_le 12 12 (fun _ => ⟨pk_in n 14 (by omega), nm_r (e' := upd a8 n x) (by rw [nI_clamp (by omega)]) (nm_r (nI_1 n) (H1 K' s g9 g10 g12 hKn hKv ⟨R', pv', hB', fun j hj => ?_, fun b hb => ?_⟩))⟩) (fun z => absurd z (by omega))
      · by_cases e : j = n
        · rw [e, hKv]
          exact ⟨h.2, hv⟩
        · rw [hKn j (by omega)]
          refine ⟨fun k hk => ?_, (hK j (by omega)).2⟩
          rw [h.1 (12 * j + k) (by omega)]
          exact (hK j (by omega)).1 k hk
      · by_cases e : b = n
        · rw [e]
          refine ww_sp_le (fun u hu => ?_) hs1
          rcases hu with ⟨c, hc, rfl⟩ | rfl
          · exact ww_fam_le (by omega) hKn (hR c hc)
          · have := ww_fam_in (K := K') (show n < n + 1 by omega)
            rw [hKv] at this
            exact this
        · rw [hR' b (by omega)]
          exact ww_fam_le (by omega) hKn (hR b (by omega))
    · refine pk_le 12 i (fun z => absurd z (by omega)) (fun _ => ⟨pk_in i 12 hi, pk_in (12 * n + i) 168 (by omega) (ww_i12 n i), nm_r (e' := upd s (12 * n + i) (ww_z (v i))) ?_ (nm_r (nI_1 i) (hw _ ⟨fun j hj => ?_, fun k hk => ?_⟩))⟩)
      · rw [ww_i12, nI_clamp (show 12 * n + i < 2 ^ 31 by omega), nI_clamp (show i < 2 ^ 31 by omega), h11 i hi]
      · rw [pk_un (by omega)]
        exact h.1 j hj
      · by_cases e : k = i
        · rw [e, pk_us]
        · rw [pk_un (by omega)]
          exact h.2 k (by omega)
end
end
section
section
variable {a1 a2 a3 a4 a5 a6 a7 a8 a9 a10 a11 a12 a13 : Nat → Int32}
variable {m fw fb : Int32}
theorem ww_se46 {post : Int32 → St2 → Prop} {J : Int32 → Int32 → Int32 → Int32 → (Nat → Int32) → (Nat → Int32) → (Nat → Int32) → (Nat → Int32) → (Nat → Int32) → (Nat → Int32) → (Nat → Int32) → (Nat → Int32) → (Nat → Int32) → (Nat → Int32) → (Nat → Int32) → (Nat → Int32) → (Nat → Int32) → Prop} {d : Nat} {Q : Nat → Nat → ww_F} {sg : Nat → ww_F} (hd : d ≤ 3) (hm : ww_mem d Q sg a1 a2 a3 a4 a5 a6)
    (H : ∀ (r : Nat) (fw' fb' : Int32) (g7 g8 g9 g10 g11 g12 : Nat → Int32), ww_first (fun n => ww_E d Q (ww_rw d Q sg n)) r → post (nI r) (nI d, fw', fb', a1, a2, a3, a4, a5, a6, g7, g8, g9, g10, g11, g12, a13))
    {f k c n : Nat} {K : Nat → ww_V} {cd : Nat → Nat} (hk : k < n) (hc : c < 2) (hQ : ww_Q d n K a7 a9 a10) (h8 : ∀ j, j < n → a8 j = nI (cd j)) (hsi : ww_si (ww_rw d Q sg) (ww_E d Q) n K cd k c)
    (HW : ∀ (n' : Nat) (K' : Nat → ww_V) (cd' : Nat → Nat) (g7 g8 g9 g10 g11 g12 : Nat → Int32), n ≤ n' → ww_Q d n' K' g7 g9 g10 → (∀ j, j < n' → g8 j = nI (cd' j)) → ww_si (ww_rw d Q sg) (ww_E d Q) n' K' cd' k (c + 1) → wX_search_46 post J (nI k) f (nI (c + 1)) (nI d) (nI n') (nI n') a1 a2 a3 a4 a5 a6 g7 g8 g9 g10 g11 g12 a13) :
    wX_search_46 post J (nI k) (f + 1) (nI c) (nI d) (nI n) (nI n) a1 a2 a3 a4 a5 a6 a7 a8 a9 a10 a11 a12 a13 := by
  have hle := ww_Q_le hQ
  have hKk := (hsi.1 k hk)
  have eA : ww_A d Q c (K k) = ww_rw d Q sg (2 * cd k + c) := by rw [hKk.1, ww_rw_s d Q sg hKk.2.1 hc]
  have h7 : ∀ i, i < 12 → a7 (12 * k + i) = ww_z (K k i) := by
    obtain ⟨R, pv, _, h, _⟩ := hQ
    exact (h k hk).1
  have ex : 2 * a8 (nI k).toNatClampNeg + nI c = nI (2 * cd k + c) := by rw [nI_clamp (by omega), h8 k hk, ww_i2]
  refine pk_le 2 c (fun z => absurd z (by omega)) (fun _ => ?_)
  refine ww_take (by omega) h7 (fun g hg => ?_)
  refine ww_adv hc hd hm hg (fun g' g12 hg' => ?_)
  rw [eA] at hg'
  refine ww_endv hd hm hg' (ww_rw_su d Q sg _) ?_
  refine ek_if (ww_iff0 _) (fun h0 => ⟨pk_in k 14 (by omega), ?_⟩) (fun h0 => ⟨pk_in k 14 (by omega), ?_⟩)
  · refine ww_keep hd hQ (ww_rw_su d Q sg _) hg' (fun hs g'' => nm_r (nI_1 c) (HW n K cd _ _ _ _ _ _ (Nat.le_refl n) hQ h8 (ww_si_in hsi hk hc hs))) (fun K' g7 g9 g10 g12' hK' hKn hQ' => nm_r (nI_1 c) ?_)
    refine HW (n + 1) K' (fun j => if j = n then 2 * cd k + c else cd j) _ _ _ _ _ _ (by omega) hQ' (fun j hj => ?_) (ww_si_new hsi hk hc h0 hK' (fun j hj => if_neg (by omega)) hKn (if_pos rfl))
    by_cases e : j = n
    · rw [e, pk_us, if_pos rfl]
      exact ex
    · rw [pk_un e, if_neg e]
      exact h8 j (by omega)
  · have ep := ex
    rw [show (2 * a8 (nI k).toNatClampNeg + nI c : Int32) = nI (2 * cd k + c) from ex]
    refine H (2 * cd k + c) _ _ _ _ _ _ _ _ (Or.inr ⟨by have := hKk.2.1; omega, ?_, h0, fun m h1 h2 => ww_si_least hsi hk (fun c P hP => ww_A_lin d Q c hP) (fun m c h1 h2 => ww_rw_s d Q sg h1 h2) (ww_E_lin d Q) h1 h2 hc⟩)
    have h2 := hKk.2.2.1
    have h3 : 2 ^ (k + 1) ≤ 2 ^ 6 := Nat.pow_le_pow_right (by omega) (by omega)
    omega
theorem ww_se30 {post : Int32 → St2 → Prop} {d : Nat} {Q : Nat → Nat → ww_F} {sg : Nat → ww_F} (hd : d ≤ 3) (hm : ww_mem d Q sg a1 a2 a3 a4 a5 a6)
    (H : ∀ (r : Nat) (fw' fb' : Int32) (g7 g8 g9 g10 g11 g12 : Nat → Int32), ww_first (fun n => ww_E d Q (ww_rw d Q sg n)) r → post (nI r) (nI d, fw', fb', a1, a2, a3, a4, a5, a6, g7, g8, g9, g10, g11, g12, a13)) :
    ∀ (f k n : Nat) (K : Nat → ww_V) (cd : Nat → Nat) (a7 a8 a9 a10 a11 a12 : Nat → Int32), ww_Q d n K a7 a9 a10 → (∀ j, j < n → a8 j = nI (cd j)) → ww_si (ww_rw d Q sg) (ww_E d Q) n K cd k 0 → k ≤ n → 7 - k < f → wX_search_30 post f (nI k) (nI d) (nI n) (nI n) a1 a2 a3 a4 a5 a6 a7 a8 a9 a10 a11 a12 a13 := by
  intro f
  induction f with
  | zero => intro k n K cd a7 a8 a9 a10 a11 a12 hQ _ _ _ hf; omega
  | succ f ih =>
    intro k n K cd a7 a8 a9 a10 a11 a12 hQ h8 hsi hkn hf
    have hle := ww_Q_le hQ
    refine pk_le 12 k (fun z => absurd z (by omega)) (fun _ => pk_le n k (fun z => ?_) (fun z => ⟨3, ?_⟩))
    · have e : k = n := by omega
      subst e
      exact H 0 _ _ _ _ _ _ _ _ (Or.inl ⟨rfl, fun m hm => ww_si_end hsi (fun c P hP => ww_A_lin d Q c hP) (fun m c h1 h2 => ww_rw_s d Q sg h1 h2) (ww_E_lin d Q) hm⟩)
    · refine ww_se46 (c := 0) hd hm H z (by omega) hQ h8 hsi (fun n1 K1 cd1 g7 g8 g9 g10 g11 g12 hn1 hQ1 h81 hsi1 => ?_)
      refine ww_se46 (c := 1) hd hm H (by omega) (by omega) hQ1 h81 hsi1 (fun n2 K2 cd2 g7' g8' g9' g10' g11' g12' hn2 hQ2 h82 hsi2 => ?_)
      exact pk_le 2 2 (fun _ => nm_r (nI_1 k) (ih (k + 1) n2 K2 cd2 _ _ _ _ _ _ hQ2 h82 (ww_si_next hsi2) (by omega) (by omega))) (fun z => absurd z (by omega))
theorem ww_search {post : Int32 → St2 → Prop} {d : Nat} {Q : Nat → Nat → ww_F} {sg : Nat → ww_F} (hd : d ≤ 3) (hm : ww_mem d Q sg a1 a2 a3 a4 a5 a6)
    (H : ∀ (r : Nat) (fw' fb' : Int32) (g7 g8 g9 g10 g11 g12 : Nat → Int32), ww_first (fun n => ww_E d Q (ww_rw d Q sg n)) r → post (nI r) (nI d, fw', fb', a1, a2, a3, a4, a5, a6, g7, g8, g9, g10, g11, g12, a13)) :
    wpX_search post (nI d, fw, fb, a1, a2, a3, a4, a5, a6, a7, a8, a9, a10, a11, a12, a13) := by
  unfold wpX_search
  refine ww_start hd hm (fun g hg => ?_)
  rw [← ww_rw_1] at hg
  refine ww_endv hd hm hg (ww_rw_su d Q sg _) ?_
  refine ek_if (ww_iff0 _) (fun h0 => ?_) (fun h0 => ?_)
  · refine ww_keep (n := 0) (K := fun _ _ => 0) hd (ww_Q_0 d _ _ _ _) (ww_rw_su d Q sg _) hg (fun hs g'' => ?_) (fun K' g7 g9 g10 g12' hK' hKn hQ' => ?_)
    · exact ⟨8, ww_se30 hd hm H 8 0 0 _ (fun _ => 0) _ _ _ _ _ _ (ww_Q_0 d (fun _ _ => 0) _ _ _) (fun j hj => absurd hj (by omega)) (ww_si_0 hs) (by omega) (by omega)⟩
    · refine ⟨8, ww_se30 hd hm H 8 0 1 K' (fun _ => 1) _ _ _ _ _ _ hQ' (fun j hj => ?_) (ww_si_1 hKn rfl h0) (by omega) (by omega)⟩
      have e : j = 0 := by omega
      rw [e, pk_us]
      rfl
  · exact H 1 _ _ _ _ _ _ _ _ (Or.inr ⟨by omega, by omega, h0, fun m h1 h2 => by omega⟩)
theorem ww_alone {post : St2 → Prop} {a : Nat} (H : post (nI 1, fw, fb, a1, a2, a3, a4, upd a5 0 (nI a), upd a6 0 1, a7, a8, a9, a10, a11, a12, a13)) : wpX_alone post (m, fw, fb, a1, a2, a3, a4, a5, a6, a7, a8, a9, a10, a11, a12, a13) (nI a) := nm_e (nm_e H)
theorem ww_pair {post : St2 → Prop} {a b : Nat} (H : post (nI 2, fw, fb, a1, a2, a3, a4, upd (upd a5 0 (nI a)) 1 (nI b), upd (upd a6 0 1) 1 996, a7, a8, a9, a10, a11, a12, a13)) : wpX_pair post (m, fw, fb, a1, a2, a3, a4, a5, a6, a7, a8, a9, a10, a11, a12, a13) (nI a) (nI b) := by
  unfold wpX_pair
  exact ww_alone (nm_e (nm_e H))
theorem ww_mem1 {a : Nat} {P : Nat → ww_F} (ha : a < 3) (hM : ww_M a1 a2 a3 a4 a P) : ww_mem 1 (fun _ => P) (fun _ => 1) a1 a2 a3 a4 (upd a5 0 (nI a)) (upd a6 0 1) := by
  intro i hi
  have e : i = 0 := by omega
  subst e
  exact ⟨a, ha, pk_us, pk_us, hM⟩
def ww_q2 (P P' : Nat → ww_F) (i : Nat) : Nat → ww_F := if i = 0 then P else P'
def ww_s2 (i : Nat) : ww_F := if i = 1 then 996 else 1
theorem ww_mem2 {a b : Nat} {P P' : Nat → ww_F} (ha : a < 3) (hb : b < 3) (hM : ww_M a1 a2 a3 a4 a P) (hM' : ww_M a1 a2 a3 a4 b P') : ww_mem 2 (ww_q2 P P') ww_s2 a1 a2 a3 a4 (upd (upd a5 0 (nI a)) 1 (nI b)) (upd (upd a6 0 1) 1 996) := by
  intro i hi
  by_cases e : i = 0
  · subst e
    exact ⟨a, ha, by rw [pk_un (by omega), pk_us], by rw [pk_un (by omega), pk_us]; rfl, hM⟩
  · have e1 : i = 1 := by omega
    subst e1
    exact ⟨b, hb, pk_us, pk_us, hM'⟩
def ww_q3 (P P' P'' : Nat → ww_F) (i : Nat) : Nat → ww_F := if i = 0 then P else if i = 1 then P' else P''
theorem ww_mem3 {a b c : Nat} {P P' P'' : Nat → ww_F} (ha : a < 3) (hb : b < 3) (hc : c < 3) (hM : ww_M a1 a2 a3 a4 a P) (hM' : ww_M a1 a2 a3 a4 b P') (hM'' : ww_M a1 a2 a3 a4 c P'') :
    ww_mem 3 (ww_q3 P P' P'') ww_s2 a1 a2 a3 a4 (upd (upd (upd a5 0 (nI a)) 1 (nI b)) 2 (nI c)) (upd (upd (upd a6 0 1) 1 996) 2 1) := by
  intro i hi
  by_cases e : i = 0
  · subst e
    exact ⟨a, ha, by rw [pk_un (by omega), pk_un (by omega), pk_us], by rw [pk_un (by omega), pk_un (by omega), pk_us]; rfl, hM⟩
  · by_cases e1 : i = 1
    · subst e1
      exact ⟨b, hb, by rw [pk_un (by omega), pk_us], by rw [pk_un (by omega), pk_us]; rfl, hM'⟩
    · have e2 : i = 2 := by omega
      subst e2
      exact ⟨c, hc, pk_us, by rw [pk_us]; rfl, hM''⟩
theorem ww_996 : (996 : ww_F) = 0 - 1 := by decide
theorem ww_w1 (P : Nat → ww_F) (n : Nat) : ww_E 1 (fun _ => P) (ww_rw 1 (fun _ => P) (fun _ => 1) n) = ww_w P n := by
  rw [ww_E1]
  generalize ww_w P n = x
  grind
theorem ww_w2 (P P' : Nat → ww_F) (n : Nat) : ww_E 2 (ww_q2 P P') (ww_rw 2 (ww_q2 P P') ww_s2 n) = ww_w P n - ww_w P' n := by
  rw [ww_E2]
  show ww_w P n * 1 + ww_w P' n * 996 = _
  rw [ww_996]
  generalize ww_w P n = x
  generalize ww_w P' n = y
  grind
theorem ww_w3 (P P' P'' : Nat → ww_F) (n : Nat) : ww_E 3 (ww_q3 P P' P'') (ww_rw 3 (ww_q3 P P' P'') ww_s2 n) = ww_w P n - ww_w P' n + ww_w P'' n := by
  rw [ww_E3]
  show ww_w P n * 1 + ww_w P' n * 996 + ww_w P'' n * 1 = _
  rw [ww_996]
  generalize ww_w P n = x
  generalize ww_w P' n = y
  generalize ww_w P'' n = z
  grind
theorem ww_firstX {post : Int32 → St2 → Prop} {a : Nat} {P : Nat → ww_F} (ha : a < 3) (hM : ww_M a1 a2 a3 a4 a P)
    (H : ∀ (r : Nat) (m' fw' fb' : Int32) (g5 g6 g7 g8 g9 g10 g11 g12 : Nat → Int32), ww_first (ww_w P) r → post (nI r) (m', fw', fb', a1, a2, a3, a4, g5, g6, g7, g8, g9, g10, g11, g12, a13)) :
    wpX_first post (m, fw, fb, a1, a2, a3, a4, a5, a6, a7, a8, a9, a10, a11, a12, a13) (nI a) := by
  unfold wpX_first
  refine ww_good ha (br_f (by decide) (ww_alone (ww_search (by omega) (ww_mem1 ha hM) (fun r fw' fb' g7 g8 g9 g10 g11 g12 hr => H r _ _ _ _ _ _ _ _ _ _ _ ?_))))
  rw [show (fun n => ww_E 1 (fun _ => P) (ww_rw 1 (fun _ => P) (fun _ => 1) n)) = ww_w P from funext (ww_w1 P)] at hr
  exact hr
theorem ww_diffX {post : Int32 → St2 → Prop} {a b : Nat} {P P' : Nat → ww_F} (ha : a < 3) (hb : b < 3) (hM : ww_M a1 a2 a3 a4 a P) (hM' : ww_M a1 a2 a3 a4 b P')
    (H : ∀ (r : Nat) (m' fw' fb' : Int32) (g5 g6 g7 g8 g9 g10 g11 g12 : Nat → Int32), ww_first (fun n => ww_w P n - ww_w P' n) r → post (nI r) (m', fw', fb', a1, a2, a3, a4, g5, g6, g7, g8, g9, g10, g11, g12, a13)) :
    wpX_difference post (m, fw, fb, a1, a2, a3, a4, a5, a6, a7, a8, a9, a10, a11, a12, a13) (nI a) (nI b) := by
  unfold wpX_difference
  refine ww_good ha (br_f (by decide) (ww_good hb (br_f (by decide) (ww_pair (ww_search (by omega) (ww_mem2 ha hb hM hM') (fun r fw' fb' g7 g8 g9 g10 g11 g12 hr => H r _ _ _ _ _ _ _ _ _ _ _ ?_))))))
  rw [show (fun n => ww_E 2 (ww_q2 P P') (ww_rw 2 (ww_q2 P P') ww_s2 n)) = (fun n => ww_w P n - ww_w P' n) from funext (ww_w2 P P')] at hr
  exact hr
theorem ww_first0 {f : Nat → ww_F} {r : Nat} (h : ww_first f r) (h0 : ∀ n, 1 ≤ n → f n = 0) : r = 0 := by
  rcases h with h | ⟨h1, _, h3, _⟩
  · exact h.1
  · exact absurd (h0 r h1) h3
theorem ww_equivX {post : Int32 → St2 → Prop} {a b : Nat} {P P' : Nat → ww_F} (ha : a < 3) (hb : b < 3) (hM : ww_M a1 a2 a3 a4 a P) (hM' : ww_M a1 a2 a3 a4 b P') (he : ∀ n, 1 ≤ n → ww_w P n = ww_w P' n)
    (H : ∀ (m' fw' fb' : Int32) (g5 g6 g7 g8 g9 g10 g11 g12 : Nat → Int32), post 1 (m', fw', fb', a1, a2, a3, a4, g5, g6, g7, g8, g9, g10, g11, g12, a13)) :
    wpX_equivalent post (m, fw, fb, a1, a2, a3, a4, a5, a6, a7, a8, a9, a10, a11, a12, a13) (nI a) (nI b) := by
  unfold wpX_equivalent
  refine ww_good ha (br_f (by decide) (ww_good hb (br_f (by decide) (ww_pair (ww_search (by omega) (ww_mem2 ha hb hM hM') (fun r fw' fb' g7 g8 g9 g10 g11 g12 hr => ?_))))))
  have e := ww_first0 hr (fun n hn => by
    show ww_E 2 (ww_q2 P P') (ww_rw 2 (ww_q2 P P') ww_s2 n) = 0
    rw [ww_w2, he n hn]
    generalize ww_w P' n = x
    grind)
  subst e
  exact br_t rfl (H _ _ _ _ _ _ _ _ _ _ _)
theorem ww_sumX {post : Int32 → St2 → Prop} {a b c : Nat} {P P' P'' : Nat → ww_F} (ha : a < 3) (hb : b < 3) (hc : c < 3) (hM : ww_M a1 a2 a3 a4 a P) (hM' : ww_M a1 a2 a3 a4 c P') (hM'' : ww_M a1 a2 a3 a4 b P'') (he : ∀ n, 1 ≤ n → ww_w P n - ww_w P' n + ww_w P'' n = 0)
    (H : ∀ (m' fw' fb' : Int32) (g5 g6 g7 g8 g9 g10 g11 g12 : Nat → Int32), post 1 (m', fw', fb', a1, a2, a3, a4, g5, g6, g7, g8, g9, g10, g11, g12, a13)) :
    wpX_isSum post (m, fw, fb, a1, a2, a3, a4, a5, a6, a7, a8, a9, a10, a11, a12, a13) (nI a) (nI b) (nI c) := by
  unfold wpX_isSum
  refine ww_good ha (br_f (by decide) (ww_good hb (br_f (by decide) (ww_good hc (br_f (by decide) (ww_pair (nm_e (nm_e (ww_search (d := 3) (by omega) (ww_mem3 ha hc hb hM hM' hM'') (fun r fw' fb' g7 g8 g9 g10 g11 g12 hr => ?_))))))))))
  have e := ww_first0 hr (fun n hn => by
    show ww_E 3 (ww_q3 P P' P'') (ww_rw 3 (ww_q3 P P' P'') ww_s2 n) = 0
    rw [ww_w3, he n hn])
  subst e
  exact br_t rfl (H _ _ _ _ _ _ _ _ _ _ _)
end
end
section
theorem ww_top (wd : Nat) (h1 : 1 ≤ wd) : ∀ b, wd < 2 ^ (b + 1) → ∃ t, t ≤ b ∧ 2 ^ t ≤ wd ∧ wd < 2 ^ (t + 1) := by
  intro b
  induction b with
  | zero => intro h; exact ⟨0, Nat.le_refl 0, h1, h⟩
  | succ b ih =>
    intro h
    by_cases e : 2 ^ (b + 1) ≤ wd
    · exact ⟨b + 1, Nat.le_refl _, e, h⟩
    · obtain ⟨t, t1, t2⟩ := ih (by omega)
      exact ⟨t, by omega, t2⟩
theorem ww_sl : ∀ s, s < 10 → ((nI s &&& 31).toBitVec.smod 32).toNat = s := by decide +kernel
theorem ww_shr {wd s : Nat} (hw : wd < 2 ^ 31) (hs : s < 10) : nI wd >>> (nI s &&& 31) = nI (wd / 2 ^ s) := pk_shrN hw _ s (ww_sl s hs)
theorem ww_shb {wd s : Nat} (hw : wd < 2 ^ 31) (hs : s < 10) : (nI wd >>> (nI s &&& 31)) &&& 1 = nI (wd / 2 ^ s % 2) := by
  rw [ww_shr hw hs]
  exact pk_andN (Nat.lt_of_le_of_lt (Nat.div_le_self wd _) (by omega)) 1 (by decide)
theorem ww_div0 {wd t j : Nat} (h : wd < 2 ^ (t + 1)) (hj : t < j) : wd / 2 ^ j = 0 := Nat.div_eq_of_lt (Nat.lt_of_lt_of_le h (Nat.pow_le_pow_right (by omega) hj))
theorem ww_div1 {wd t j : Nat} (h : 2 ^ t ≤ wd) (hj : j ≤ t) : 1 ≤ wd / 2 ^ j := Nat.div_pos (Nat.le_trans (Nat.pow_le_pow_right (by omega) hj) h) (Nat.two_pow_pos j)
theorem ww_divt {wd t : Nat} (h : 2 ^ t ≤ wd) (h2 : wd < 2 ^ (t + 1)) : wd / 2 ^ t = 1 := by
  have h3 := ww_div1 h (Nat.le_refl t)
  have h4 : wd / 2 ^ t < 2 := Nat.div_lt_of_lt_mul (by rw [Nat.pow_succ] at h2; exact h2)
  omega
theorem ww_divs (wd s : Nat) : 2 * (wd / 2 ^ (s + 1)) + wd / 2 ^ s % 2 = wd / 2 ^ s := by
  have e : wd / 2 ^ (s + 1) = wd / 2 ^ s / 2 := by rw [Nat.pow_succ, Nat.div_div_eq_div_mul]
  omega
section
variable {a1 a2 a3 a4 a5 a6 a7 a8 a9 a10 a11 a12 a13 : Nat → Int32}
variable {m fw fb : Int32}
theorem ww_we57 {post : Int32 → St2 → Prop} {P : Nat → ww_F} {wd t : Nat} (h1 : 2 ^ t ≤ wd) (h2 : wd < 2 ^ (t + 1)) (ht : t < 10) (hm : ww_mem 1 (fun _ => P) (fun _ => 1) a1 a2 a3 a4 a5 a6) (h11 : ∀ k, k < 12 → a11 k = ww_z (ww_rw 1 (fun _ => P) (fun _ => 1) 1 k))
    (H : ∀ g11 g12 : Nat → Int32, post (ww_z (ww_w P wd)) (nI 1, fw, fb, a1, a2, a3, a4, a5, a6, a7, a8, a9, a10, g11, g12, a13)) : ∃ n, wX_weight_57 post (nI wd) n (nI t - 1) (nI 1) fw fb a1 a2 a3 a4 a5 a6 a7 a8 a9 a10 a11 a12 a13 := by
  have hw : wd < 2 ^ 31 := Nat.lt_of_lt_of_le h2 (Nat.pow_le_pow_right (by omega) (by omega))
  refine ⟨t + 1, pk_loopD (σ := (Nat → Int32) × (Nat → Int32)) (fun n s g => wX_weight_57 post (nI wd) n (nI s - 1) (nI 1) fw fb a1 a2 a3 a4 a5 a6 a7 a8 a9 a10 g.1 g.2 a13) (fun s g => s ≤ t ∧ ∀ k, k < 12 → g.1 k = ww_z (ww_rw 1 (fun _ => P) (fun _ => 1) (wd / 2 ^ s) k)) (fun n g h => ?_) (fun n s g h hh => ?_) t (a11, a12) ⟨Nat.le_refl t, ?_⟩⟩
  · refine br_t (by decide) (ww_endv (by omega) hm h.2 (ww_rw_su _ _ _ _) ?_)
    rw [ww_w1, Nat.pow_zero, Nat.div_one]
    exact H _ _
  · have hs := h.1
    have hh2 := h.2
    have ep : nI (s + 1) - 1 = nI s := nI_pred s
    show wX_weight_57 post (nI wd) (n + 1) (nI (s + 1) - 1) (nI 1) fw fb a1 a2 a3 a4 a5 a6 a7 a8 a9 a10 g.1 g.2 a13
    rw [ep]
    refine br_f (nI_pos (by omega)) ?_
    rw [ww_shb hw (show s < 10 by omega)]
    refine ww_adv (by omega) (by omega) hm hh2 (fun g' g'' hg => nm_r (e' := nI s - 1) (Int32.sub_eq_add_neg _ _).symm (hh (g', g'') ⟨by omega, ?_⟩))
    rw [← ww_rw_s 1 _ _ (ww_div1 h1 hs) (by omega), ww_divs] at hg
    exact hg
  · rw [ww_divt h1 h2]
    exact h11
theorem ww_weightX {post : Int32 → St2 → Prop} {a wd : Nat} {P : Nat → ww_F} (ha : a < 3) (hM : ww_M a1 a2 a3 a4 a P) (h1 : 1 ≤ wd) (h2 : wd < 1024)
    (H : ∀ (m' fw' fb' : Int32) (g5 g6 g11 g12 : Nat → Int32), post (ww_z (ww_w P wd)) (m', fw', fb', a1, a2, a3, a4, g5, g6, a7, a8, a9, a10, g11, g12, a13)) : wpX_weight post (m, fw, fb, a1, a2, a3, a4, a5, a6, a7, a8, a9, a10, a11, a12, a13) (nI a) (nI wd) := by
  obtain ⟨t, t1, t2, t3⟩ := ww_top wd h1 9 h2
  unfold wpX_weight
  refine ww_good ha (br_f (by decide) (pk_lt wd 1 (fun z => absurd z (by omega)) (fun _ => pk_le wd 1023 (fun _ => ww_alone (ww_start (by omega) (ww_mem1 ha hM) (fun g hg => ?_))) (fun z => absurd z (by omega)))))
  rw [← ww_rw_1] at hg
  have c57 := ww_we57 (fw := fw) (fb := fb) (post := post) (a7 := a7) (a8 := a8) (a9 := a9) (a10 := a10) (a12 := a12) (a13 := a13) t2 t3 (by omega) (ww_mem1 (a5 := a5) (a6 := a6) ha hM) hg (fun g11 g12 => H _ _ _ _ _ g11 g12)
  have main : ∀ e, t + e ≤ 9 → wX_weight_36 post (nI wd) (nI 1) fw fb a1 a2 a3 a4 (upd a5 0 (nI a)) (upd a6 0 1) a7 a8 a9 a10 g a12 a13 (e + 1) (nI (t + e)) := by
    intro e
    induction e with
    | zero => exact fun _ => pk_le t 0 (fun _ => nm_e c57) (fun z => br_f (by rw [ww_shr (by omega) (by omega), Nat.add_zero, ww_divt t2 t3]; decide) (nm_e c57))
    | succ e ih => exact fun he => pk_le (t + (e + 1)) 0 (fun z => absurd z (by omega)) (fun _ => br_t (by rw [ww_shr (by omega) (by omega), ww_div0 t3 (by omega)]; rfl) (nm_r (pk_m1 (t + e)) (ih (by omega))))
  have := main (9 - t) (by omega)
  rw [show t + (9 - t) = 9 by omega] at this
  exact ⟨9 - t + 1, this⟩
end
/-! the law's own weight -/
theorem ww_ist (c p q : Nat) : ((4 + (4 * nI c)) + (2 * nI p)) + nI q = nI (4 + 4 * c + 2 * p + q) := by
  rw [show (4 : Int32) = nI 4 from rfl, show (2 : Int32) = nI 2 from rfl, pk_mul, pk_mul, nI_add, nI_add, nI_add]
theorem ww_stL {post : Int32 → Prop} {cc x y z : Int32} (c p q : Nat) (hx : x = nI c) (hy : y = nI p) (hz : z = nI q) (h : post (ww_z (ww_p cc (4 + 4 * c + 2 * p + q)))) : wpL_step post () cc x y z := by
  subst hx hy hz
  exact ww_partx _ (ww_ist c p q) h
theorem ww_wL45 {post : Int32 → Prop} {cc : Int32} {wd t : Nat} (h1 : 2 ^ t ≤ wd) (h2 : wd < 2 ^ (t + 1)) (ht : t < 7) (H : post (ww_z (ww_w (ww_p cc) wd))) : ∃ n, wL_weight_45 post cc (nI wd) (nI t) n (ww_z (ww_p cc 0)) (ww_z (ww_p cc 1)) 5 := by
  have hw : wd < 2 ^ 31 := Nat.lt_of_lt_of_le h2 (Nat.pow_le_pow_right (by omega) (by omega))
  refine ⟨6 + 1, pk_loopD (σ := Int32 × Int32) (fun n s g => wL_weight_45 post cc (nI wd) (nI t) n g.1 g.2 (nI s - 1)) (fun s g => s ≤ 6 ∧ g = (ww_z (ww_r (ww_p cc) (wd / 2 ^ (min s t)) 0), ww_z (ww_r (ww_p cc) (wd / 2 ^ (min s t)) 1))) (fun n g h => ?_) (fun n s g h hh => ?_) 6 (ww_z (ww_p cc 0), ww_z (ww_p cc 1)) ⟨Nat.le_refl 6, ?_⟩⟩
  · obtain ⟨_, hg⟩ := h
    subst hg
    refine br_t (by decide) (ww_partx 2 rfl (ww_partx 3 rfl ⟨by decide, ?_⟩))
    dsimp only
    rw [Nat.zero_min, Nat.pow_zero, Nat.div_one, ww_mmac]
    exact H
  · obtain ⟨hs, hg⟩ := h
    subst hg
    have ep : nI (s + 1) - 1 = nI s := nI_pred s
    have em : nI s + (-1) = nI s - 1 := (Int32.sub_eq_add_neg _ _).symm
    show wL_weight_45 post cc (nI wd) (nI t) (n + 1) (ww_z (ww_r (ww_p cc) (wd / 2 ^ (min (s + 1) t)) 0)) (ww_z (ww_r (ww_p cc) (wd / 2 ^ (min (s + 1) t)) 1)) (nI (s + 1) - 1)
    rw [ep]
    refine br_f (nI_pos (by omega)) (pk_le t s (fun z => ?_) (fun z => ?_))
    · rw [show min (s + 1) t = min s t by omega]
      exact nm_r em (hh (ww_z (ww_r (ww_p cc) (wd / 2 ^ (min s t)) 0), ww_z (ww_r (ww_p cc) (wd / 2 ^ (min s t)) 1)) ⟨by omega, rfl⟩)
    · rw [show min (s + 1) t = s + 1 by omega]
      have hd1 := ww_div1 h1 (show s + 1 ≤ t by omega)
      have hb : wd / 2 ^ s % 2 < 2 := by omega
      have e0 : ww_r (ww_p cc) (wd / 2 ^ s) 0 = ww_r (ww_p cc) (wd / 2 ^ (s + 1)) 0 * ww_p cc (4 + 4 * (wd / 2 ^ s % 2) + 2 * 0 + 0) + ww_r (ww_p cc) (wd / 2 ^ (s + 1)) 1 * ww_p cc (4 + 4 * (wd / 2 ^ s % 2) + 2 * 1 + 0) := by
        have := ww_r_s (ww_p cc) hd1 hb 0
        rw [ww_divs] at this
        exact this
      have e1 : ww_r (ww_p cc) (wd / 2 ^ s) 1 = ww_r (ww_p cc) (wd / 2 ^ (s + 1)) 0 * ww_p cc (4 + 4 * (wd / 2 ^ s % 2) + 2 * 0 + 1) + ww_r (ww_p cc) (wd / 2 ^ (s + 1)) 1 * ww_p cc (4 + 4 * (wd / 2 ^ s % 2) + 2 * 1 + 1) := by
        have := ww_r_s (ww_p cc) hd1 hb 1
        rw [ww_divs] at this
        exact this
      refine nm_r (ww_shb hw (show s < 10 by omega)) ?_
      refine ww_stL (wd / 2 ^ s % 2) 0 0 rfl rfl rfl (ww_stL (wd / 2 ^ s % 2) 1 0 rfl rfl rfl ⟨by decide, nm_r (e' := ww_z (ww_r (ww_p cc) (wd / 2 ^ s) 0)) ?_ ?_⟩)
      · rw [ww_mmac, e0]
      · refine ww_stL (wd / 2 ^ s % 2) 0 1 rfl rfl rfl (ww_stL (wd / 2 ^ s % 2) 1 1 rfl rfl rfl ⟨by decide, nm_r (e' := ww_z (ww_r (ww_p cc) (wd / 2 ^ s) 1)) ?_ (nm_r em (hh (ww_z (ww_r (ww_p cc) (wd / 2 ^ s) 0), ww_z (ww_r (ww_p cc) (wd / 2 ^ s) 1)) ⟨by omega, ?_⟩))⟩)
        · rw [ww_mmac, e1]
        · rw [show min s t = s by omega]
  · rw [show min 6 t = t by omega, ww_divt h1 h2, ww_r_1, ww_r_1]
theorem ww_weightL {post : Int32 → Prop} {cc : Int32} {wd : Nat} (h1 : 1 ≤ wd) (h2 : wd < 128) (H : post (ww_z (ww_w (ww_p cc) wd))) : wpL_weight post () cc (nI wd) := by
  obtain ⟨t, t1, t2, t3⟩ := ww_top wd h1 6 h2
  refine ww_partx 0 rfl (ww_partx 1 rfl ?_)
  refine pk_loop (fun n k s => wL_weight_18 post cc (nI wd) (ww_z (ww_p cc 0)) (ww_z (ww_p cc 1)) n s (nI k)) (fun k s => s = nI (min t (k - 1))) 7 1 0 (by omega) ?_ (fun n s h => ?_) (fun n k s hk h hw => ?_)
  · rw [show min t (1 - 1) = 0 by omega]
    rfl
  · subst h
    refine pk_le 7 7 (fun _ => ?_) (fun z => absurd z (by omega))
    rw [show min t (7 - 1) = t by omega]
    exact ww_wL45 t2 t3 (by omega) H
  · subst h
    have hd : wd / 2 ^ k < 2 ^ 31 := Nat.lt_of_le_of_lt (Nat.div_le_self wd _) (by omega)
    refine pk_le 7 k (fun z => absurd z (by omega)) (fun _ => pk_le (wd / 2 ^ k) 0 (fun z => nm_r (nI_1 k) (hw _ ?_)) (fun z => nm_r (nI_1 k) (hw _ ?_)) (ww_shr (by omega) (by omega)) rfl hd)
    · have : ¬ k ≤ t := fun q => by have := ww_div1 t2 q; omega
      rw [show min t (k - 1) = min t (k + 1 - 1) by omega]
    · have : ¬ t < k := fun q => by have := ww_div0 t3 q; omega
      rw [show min t (k + 1 - 1) = k by omega]
end
section
/-! both letters at once -/
def ww_ts (P : Nat → ww_F) (v : ww_V) (q : Nat) : Nat → ww_F
  | 0 => 0
  | p + 1 => ww_ts P v q p + v p * (P (4 + 2 * p + q) + P (8 + 2 * p + q))
def ww_T (P : Nat → ww_F) (v : ww_V) : ww_V := fun q => if q < 2 then ww_ts P v q 2 else 0
def ww_Tn (P : Nat → ww_F) : Nat → ww_V
  | 0 => ww_s0 1 (fun _ => P) (fun _ => 1)
  | n + 1 => ww_T P (ww_Tn P n)
theorem ww_T_su (P : Nat → ww_F) (v : ww_V) : ww_su 1 (ww_T P v) := ww_su1 (fun _ hk => if_neg hk)
theorem ww_Tn_su (P : Nat → ww_F) (n : Nat) : ww_su 1 (ww_Tn P n) := by
  cases n with
  | zero => exact ww_s0_su _ _ _
  | succ n => exact ww_T_su _ _
theorem ww_ring2 (p0 p1 p2 p3 p4 p5 p6 p7 p8 p9 p10 p11 : ww_F) :
    0 + ((0 + (0 + p0 * 1 * (p4 + p8) + p1 * 1 * (p6 + p10)) * (p4 + p8) + (0 + p0 * 1 * (p5 + p9) + p1 * 1 * (p7 + p11)) * (p6 + p10)) * p2 + (0 + (0 + p0 * 1 * (p4 + p8) + p1 * 1 * (p6 + p10)) * (p5 + p9) + (0 + p0 * 1 * (p5 + p9) + p1 * 1 * (p7 + p11)) * (p7 + p11)) * p3)
    = ((((p0 * p4 + p1 * p6) * p4 + (p0 * p5 + p1 * p7) * p6) * p2 + ((p0 * p4 + p1 * p6) * p5 + (p0 * p5 + p1 * p7) * p7) * p3)
      + (((p0 * p4 + p1 * p6) * p8 + (p0 * p5 + p1 * p7) * p10) * p2 + ((p0 * p4 + p1 * p6) * p9 + (p0 * p5 + p1 * p7) * p11) * p3)
      + (((p0 * p8 + p1 * p10) * p4 + (p0 * p9 + p1 * p11) * p6) * p2 + ((p0 * p8 + p1 * p10) * p5 + (p0 * p9 + p1 * p11) * p7) * p3))
      + (((p0 * p8 + p1 * p10) * p8 + (p0 * p9 + p1 * p11) * p10) * p2 + ((p0 * p8 + p1 * p10) * p9 + (p0 * p9 + p1 * p11) * p11) * p3) := by
  grind
theorem ww_tot2 (P : Nat → ww_F) : ww_E 1 (fun _ => P) (ww_Tn P 2) = ww_w P 4 + ww_w P 5 + ww_w P 6 + ww_w P 7 := by
  have x0 : ww_T P (ww_Tn P 0) 0 = (0 + P 0 * 1 * (P 4 + P 8)) + P 1 * 1 * (P 6 + P 10) := rfl
  have x1 : ww_T P (ww_Tn P 0) 1 = (0 + P 0 * 1 * (P 5 + P 9)) + P 1 * 1 * (P 7 + P 11) := rfl
  have y0 : ww_T P (ww_T P (ww_Tn P 0)) 0 = (0 + ww_T P (ww_Tn P 0) 0 * (P 4 + P 8)) + ww_T P (ww_Tn P 0) 1 * (P 6 + P 10) := rfl
  have y1 : ww_T P (ww_T P (ww_Tn P 0)) 1 = (0 + ww_T P (ww_Tn P 0) 0 * (P 5 + P 9)) + ww_T P (ww_Tn P 0) 1 * (P 7 + P 11) := rfl
  have e : ww_E 1 (fun _ => P) (ww_Tn P 2) = 0 + (ww_T P (ww_T P (ww_Tn P 0)) 0 * P 2 + ww_T P (ww_T P (ww_Tn P 0)) 1 * P 3) := by
    rw [ww_E_s, ww_E_0]
    rfl
  have r20 : ww_r P 2 0 = ww_r P 1 0 * P 4 + ww_r P 1 1 * P 6 := ww_r_s P (n := 1) (c := 0) (by omega) (by omega) 0
  have r21 : ww_r P 2 1 = ww_r P 1 0 * P 5 + ww_r P 1 1 * P 7 := ww_r_s P (n := 1) (c := 0) (by omega) (by omega) 1
  have r30 : ww_r P 3 0 = ww_r P 1 0 * P 8 + ww_r P 1 1 * P 10 := ww_r_s P (n := 1) (c := 1) (by omega) (by omega) 0
  have r31 : ww_r P 3 1 = ww_r P 1 0 * P 9 + ww_r P 1 1 * P 11 := ww_r_s P (n := 1) (c := 1) (by omega) (by omega) 1
  have r40 : ww_r P 4 0 = ww_r P 2 0 * P 4 + ww_r P 2 1 * P 6 := ww_r_s P (n := 2) (c := 0) (by omega) (by omega) 0
  have r41 : ww_r P 4 1 = ww_r P 2 0 * P 5 + ww_r P 2 1 * P 7 := ww_r_s P (n := 2) (c := 0) (by omega) (by omega) 1
  have r50 : ww_r P 5 0 = ww_r P 2 0 * P 8 + ww_r P 2 1 * P 10 := ww_r_s P (n := 2) (c := 1) (by omega) (by omega) 0
  have r51 : ww_r P 5 1 = ww_r P 2 0 * P 9 + ww_r P 2 1 * P 11 := ww_r_s P (n := 2) (c := 1) (by omega) (by omega) 1
  have r60 : ww_r P 6 0 = ww_r P 3 0 * P 4 + ww_r P 3 1 * P 6 := ww_r_s P (n := 3) (c := 0) (by omega) (by omega) 0
  have r61 : ww_r P 6 1 = ww_r P 3 0 * P 5 + ww_r P 3 1 * P 7 := ww_r_s P (n := 3) (c := 0) (by omega) (by omega) 1
  have r70 : ww_r P 7 0 = ww_r P 3 0 * P 8 + ww_r P 3 1 * P 10 := ww_r_s P (n := 3) (c := 1) (by omega) (by omega) 0
  have r71 : ww_r P 7 1 = ww_r P 3 0 * P 9 + ww_r P 3 1 * P 11 := ww_r_s P (n := 3) (c := 1) (by omega) (by omega) 1
  unfold ww_w
  rw [e, y0, y1, x0, x1, r40, r41, r50, r51, r60, r61, r70, r71, r20, r21, r30, r31, ww_r_1, ww_r_1]
  exact ww_ring2 (P 0) (P 1) (P 2) (P 3) (P 4) (P 5) (P 6) (P 7) (P 8) (P 9) (P 10) (P 11)
section
variable {a1 a2 a3 a4 a5 a6 a7 a8 a9 a10 a11 a12 a13 : Nat → Int32}
variable {m fw fb : Int32}
theorem ww_to59 {post : Int32 → St2 → Prop} {J34 J42 : Int32 → (Nat → Int32) → (Nat → Int32) → (Nat → Int32) → (Nat → Int32) → (Nat → Int32) → (Nat → Int32) → (Nat → Int32) → (Nat → Int32) → (Nat → Int32) → (Nat → Int32) → (Nat → Int32) → (Nat → Int32) → (Nat → Int32) → Prop} {x2 x3 : Int32} {a q : Nat} {P : Nat → ww_F} {v : ww_V} (ha : a < 3) (hq : q < 4) (hM : ww_M a1 a2 a3 a4 a P) (h11 : ∀ k, k < 12 → a11 k = ww_z (v k)) (h12 : a12 q = 0)
    (H : ∀ g : Nat → Int32, (∀ j, j ≠ q → g j = a12 j) → g q = ww_z (ww_T P v q) → J42 (nI (q + 1)) a1 a2 a3 a4 a5 a6 a7 a8 a9 a10 a11 g a13) : ∃ n, wX_total_59 post J34 J42 (nI a) x2 x3 (nI q) m fw fb n 0 a1 a2 a3 a4 a5 a6 a7 a8 a9 a10 a11 a12 a13 := by
  have e1 : a1 (nI a).toNatClampNeg = nI 2 := by rw [nI_clamp (by omega), hM.1]
  by_cases hq2 : q < 2
  · refine pk_loop (fun n p s => wX_total_59 post J34 J42 (nI a) x2 x3 (nI q) m fw fb n (nI p) a1 a2 a3 a4 a5 a6 a7 a8 a9 a10 a11 s a13) (fun p s => (∀ j, j ≠ q → s j = a12 j) ∧ s q = ww_z (ww_ts P v q p)) 2 0 a12 (by omega) ⟨fun _ _ => rfl, h12⟩ (fun n s h => ?_) (fun n p s hp h hw => ?_)
    · refine And.intro (pk_in a 3 ha) (pk_le 2 2 (fun _ => nm_r (nI_1 q) (H s h.1 ?_)) (fun z => absurd z (by omega)) e1)
      rw [h.2]
      unfold ww_T
      rw [if_pos hq2]
    · have i0 : (32 * nI a + 4 * nI p) + nI q = nI (32 * a + 4 * p + q) := by rw [show (32 : Int32) = nI 32 from rfl, show (4 : Int32) = nI 4 from rfl, pk_mul, pk_mul, nI_add, nI_add]
      have i1 : ((32 * nI a + 16) + 4 * nI p) + nI q = nI (32 * a + 16 + 4 * p + q) := by rw [show (32 : Int32) = nI 32 from rfl, show (4 : Int32) = nI 4 from rfl, show (16 : Int32) = nI 16 from rfl, pk_mul, pk_mul, nI_add, nI_add, nI_add]
      have s0 : a4 (32 * a + 4 * p + q) = ww_z (P (4 + 2 * p + q)) := hM.2.2.2 0 p q (by omega) hp hq2
      have s1 : a4 (32 * a + 16 + 4 * p + q) = ww_z (P (8 + 2 * p + q)) := hM.2.2.2 1 p q (by omega) hp hq2
      refine And.intro (pk_in a 3 ha) (pk_le 2 p (fun z => absurd z (by omega)) (fun _ => ⟨pk_in a 3 ha, pk_le 2 q (fun z => absurd z (by omega)) (fun _ => ⟨pk_in (32 * a + 4 * p + q) 96 (by omega) i0, pk_in (32 * a + 16 + 4 * p + q) 96 (by omega) i1, nm_r (e' := ww_z (P (4 + 2 * p + q)) + ww_z (P (8 + 2 * p + q))) ?_ ⟨pk_in q 12 (by omega), pk_in p 12 (by omega), by decide, pk_in q 12 (by omega), nm_r (e' := upd s q (ww_z (ww_ts P v q (p + 1)))) ?_ (nm_r (nI_1 p) (hw _ ⟨fun j hj => ?_, pk_us⟩))⟩⟩) e1⟩) e1)
      · rw [i0, i1, nI_clamp (show 32 * a + 4 * p + q < 2 ^ 31 by omega), nI_clamp (show 32 * a + 16 + 4 * p + q < 2 ^ 31 by omega), s0, s1]
      · rw [nI_clamp (show q < 2 ^ 31 by omega), nI_clamp (show p < 2 ^ 31 by omega), h.2, h11 p (by omega), ww_macs]
        rfl
      · rw [pk_un hj]
        exact h.1 j hj
  · refine ⟨1, And.intro (pk_in a 3 ha) (pk_le 2 0 (fun z => absurd z (by omega)) (fun _ => ⟨pk_in a 3 ha, pk_le 2 q (fun _ => nm_r (nI_1 q) (H a12 (fun _ _ => rfl) ?_)) (fun z => absurd z (by omega)) e1⟩) e1)⟩
    rw [h12]
    unfold ww_T
    rw [if_neg hq2]
    rfl
theorem ww_to42 {post : Int32 → St2 → Prop} {J34 : Int32 → (Nat → Int32) → (Nat → Int32) → (Nat → Int32) → (Nat → Int32) → (Nat → Int32) → (Nat → Int32) → (Nat → Int32) → (Nat → Int32) → (Nat → Int32) → (Nat → Int32) → (Nat → Int32) → (Nat → Int32) → (Nat → Int32) → Prop} {x2 : Int32} {a k : Nat} {P : Nat → ww_F} {v : ww_V} (ha : a < 3) (hM : ww_M a1 a2 a3 a4 a P) (h11 : ∀ k, k < 12 → a11 k = ww_z (v k)) (hv : ww_su 1 v)
    (H : ∀ g g' : Nat → Int32, (∀ j, j < 12 → g j = ww_z (ww_T P v j)) → J34 (nI (k + 1)) a1 a2 a3 a4 a5 a6 a7 a8 a9 a10 g g' a13) : ∃ n, wX_total_42 post J34 (nI a) x2 (nI k) m fw fb n 0 a1 a2 a3 a4 a5 a6 a7 a8 a9 a10 a11 a12 a13 := by
  have c165 : ∀ s : Nat → Int32, (∀ j, j < 4 → s j = ww_z (ww_T P v j)) → ∃ n, wX_total_165 post J34 (nI a) x2 (nI k) m fw fb n 0 a1 a2 a3 a4 a5 a6 a7 a8 a9 a10 a11 s a13 := by
    intro s hs
    refine pk_loop (fun n q g => wX_total_165 post J34 (nI a) x2 (nI k) m fw fb n (nI q) a1 a2 a3 a4 a5 a6 a7 a8 a9 a10 g s a13) (fun q g => (∀ j, j < q → g j = ww_z (ww_T P v j)) ∧ ∀ j, q ≤ j → g j = a11 j) 4 0 a11 (by omega) ⟨fun j hj => absurd hj (by omega), fun _ _ => rfl⟩ (fun n g h => ?_) (fun n q g hq h hw => ?_)
    · refine pk_le 4 4 (fun _ => nm_r (nI_1 k) (H g s (fun j hj => ?_))) (fun z => absurd z (by omega))
      by_cases e : j < 4
      · exact h.1 j e
      · rw [h.2 j (by omega), h11 j hj, hv j (fun z => by have := z.1; omega), ww_T_su P v j (fun z => by have := z.1; omega)]
    · refine pk_le 4 q (fun z => absurd z (by omega)) (fun _ => ⟨pk_in q 12 (by omega), pk_in q 12 (by omega), nm_r (e' := upd g q (ww_z (ww_T P v q))) ?_ (nm_r (nI_1 q) (hw _ ⟨ww_fill (f := fun j => ww_z (ww_T P v j)) rfl h.1 rfl, fun j hj => ?_⟩))⟩)
      · rw [nI_clamp (show q < 2 ^ 31 by omega), hs q hq]
      · rw [pk_un (by omega)]
        exact h.2 j (by omega)
  refine pk_loop (fun n q s => wX_total_42 post J34 (nI a) x2 (nI k) m fw fb n (nI q) a1 a2 a3 a4 a5 a6 a7 a8 a9 a10 a11 s a13) (fun q s => ∀ j, j < q → s j = ww_z (ww_T P v j)) 4 0 a12 (by omega) (fun j hj => absurd hj (by omega)) (fun n s h => ?_) (fun n q s hq h hw => ?_)
  · exact pk_le 4 4 (fun _ => c165 s h) (fun z => absurd z (by omega))
  · refine pk_le 4 q (fun z => absurd z (by omega)) (fun _ => ⟨pk_in q 12 (by omega), nm_r (e' := upd s q 0) (by rw [nI_clamp (by omega)]) (ww_to59 ha hq hM h11 pk_us (fun g g1 g2 => hw g (fun j hj => ?_)))⟩)
    by_cases e : j = q
    · rw [e]
      exact g2
    · rw [g1 j e, pk_un e]
      exact h j (by omega)
theorem ww_totalX {post : Int32 → St2 → Prop} {a n : Nat} {P : Nat → ww_F} (ha : a < 3) (hn : n ≤ 200) (hM : ww_M a1 a2 a3 a4 a P)
    (H : ∀ (m' fw' fb' : Int32) (g5 g6 g11 g12 : Nat → Int32), post (ww_z (ww_E 1 (fun _ => P) (ww_Tn P n))) (m', fw', fb', a1, a2, a3, a4, g5, g6, a7, a8, a9, a10, g11, g12, a13)) : wpX_total post (m, fw, fb, a1, a2, a3, a4, a5, a6, a7, a8, a9, a10, a11, a12, a13) (nI a) (nI n) := by
  unfold wpX_total
  refine ww_good ha (br_f (by decide) (pk_lt n 0 (fun z => absurd z (by omega)) (fun _ => pk_le n 200 (fun _ => ww_alone (ww_start (by omega) (ww_mem1 ha hM) (fun g hg => ?_))) (fun z => absurd z (by omega)))))
  refine pk_loop (σ := (Nat → Int32) × (Nat → Int32)) (fun f k s => wX_total_34 post (nI a) (nI n) (nI 1) fw fb f (nI k) a1 a2 a3 a4 (upd a5 0 (nI a)) (upd a6 0 1) a7 a8 a9 a10 s.1 s.2 a13) (fun k s => ∀ j, j < 12 → s.1 j = ww_z (ww_Tn P k j)) n 0 (g, a12) (by omega) hg (fun f s h => ?_) (fun f k s hk h hw => ?_)
  · exact pk_le n n (fun _ => ww_endv (by omega) (ww_mem1 ha hM) h (ww_Tn_su P n) (H _ _ _ _ _ _ _)) (fun z => absurd z (by omega))
  · exact pk_le n k (fun z => absurd z (by omega)) (fun _ => ww_to42 ha hM h (ww_Tn_su P k) (fun g g' hg => hw (g, g') hg))
end
end
section
section
variable {a1 a2 a3 a4 a5 a6 a7 a8 a9 a10 a11 a12 a13 : Nat → Int32}
variable {m fw fb : Int32}
theorem ww_ga37 {post : St2 → Prop} {J : Int32 → Int32 → Int32 → Int32 → (Nat → Int32) → (Nat → Int32) → (Nat → Int32) → (Nat → Int32) → (Nat → Int32) → (Nat → Int32) → (Nat → Int32) → (Nat → Int32) → (Nat → Int32) → (Nat → Int32) → (Nat → Int32) → (Nat → Int32) → (Nat → Int32) → Prop} {P : Nat → ww_F} (hm : ww_mem 1 (fun _ => P) (fun _ => 1) a1 a2 a3 a4 a5 a6)
    {f k c n : Nat} {K : Nat → ww_V} (hk : k < n) (hc : c < 2) (hQ : ww_Q 1 n K a7 a9 a10) (hgi : ww_gi (ww_ro P) (ww_A 1 (fun _ => P)) n K k c)
    (HW : ∀ (n' : Nat) (K' : Nat → ww_V) (g7 g8 g9 g10 g11 g12 : Nat → Int32), n ≤ n' → ww_Q 1 n' K' g7 g9 g10 → ww_gi (ww_ro P) (ww_A 1 (fun _ => P)) n' K' k (c + 1) → wX_gather_37 post J (nI k) f (nI (c + 1)) (nI 1) (nI n') (nI n') a1 a2 a3 a4 a5 a6 g7 g8 g9 g10 g11 g12 a13) :
    wX_gather_37 post J (nI k) (f + 1) (nI c) (nI 1) (nI n) (nI n) a1 a2 a3 a4 a5 a6 a7 a8 a9 a10 a11 a12 a13 := by
  have hle := ww_Q_le hQ
  have h7 : ∀ i, i < 12 → a7 (12 * k + i) = ww_z (K k i) := by
    obtain ⟨R, pv, _, h, _⟩ := hQ
    exact (h k hk).1
  refine pk_le 2 c (fun z => absurd z (by omega)) (fun _ => ?_)
  refine ww_take (by omega) h7 (fun g hg => ?_)
  refine ww_adv hc (by omega) hm hg (fun g' g12 hg' => ⟨pk_in k 14 (by omega), ?_⟩)
  refine ww_keep (by omega) hQ (ww_A_su 1 _ c _) hg' (fun hs g'' => nm_r (nI_1 c) (HW n K _ _ _ _ _ _ (Nat.le_refl n) hQ (ww_gi_in hgi hs))) (fun K' g7 g9 g10 g12' hK' hKn hQ' => nm_r (nI_1 c) ?_)
  exact HW (n + 1) K' _ _ _ _ _ _ (by omega) hQ' (ww_gi_new hgi hk hc (fun m c h1 h2 => ww_rw_s 1 _ _ h1 h2) hK' hKn)
theorem ww_ga21 {post : St2 → Prop} {P : Nat → ww_F} (hm : ww_mem 1 (fun _ => P) (fun _ => 1) a1 a2 a3 a4 a5 a6)
    (H : ∀ (n : Nat) (K : Nat → ww_V) (g7 g8 g9 g10 g11 g12 : Nat → Int32), ww_Q 1 n K g7 g9 g10 → ww_gi (ww_ro P) (ww_A 1 (fun _ => P)) n K n 0 → post (nI 1, nI n, nI n, a1, a2, a3, a4, a5, a6, g7, g8, g9, g10, g11, g12, a13)) :
    ∀ (f k n : Nat) (K : Nat → ww_V) (a7 a8 a9 a10 a11 a12 : Nat → Int32), ww_Q 1 n K a7 a9 a10 → ww_gi (ww_ro P) (ww_A 1 (fun _ => P)) n K k 0 → k ≤ n → 7 - k < f → wX_gather_21 post f (nI k) (nI 1) (nI n) (nI n) a1 a2 a3 a4 a5 a6 a7 a8 a9 a10 a11 a12 a13 := by
  intro f
  induction f with
  | zero => intro k n K a7 a8 a9 a10 a11 a12 hQ _ _ hf; omega
  | succ f ih =>
    intro k n K a7 a8 a9 a10 a11 a12 hQ hgi hkn hf
    have hle := ww_Q_le hQ
    refine pk_le 12 k (fun z => absurd z (by omega)) (fun _ => pk_le n k (fun z => ?_) (fun z => ⟨3, ?_⟩))
    · have e : k = n := by omega
      subst e
      exact H k K _ _ _ _ _ _ hQ hgi
    · refine ww_ga37 (c := 0) hm z (by omega) hQ hgi (fun n1 K1 g7 g8 g9 g10 g11 g12 hn1 hQ1 hgi1 => ?_)
      refine ww_ga37 (c := 1) hm (by omega) (by omega) hQ1 hgi1 (fun n2 K2 g7' g8' g9' g10' g11' g12' hn2 hQ2 hgi2 => ?_)
      exact pk_le 2 2 (fun _ => nm_r (nI_1 k) (ih (k + 1) n2 K2 _ _ _ _ _ _ hQ2 (ww_gi_next hgi2) (by omega) (by omega))) (fun z => absurd z (by omega))
theorem ww_gather {post : St2 → Prop} {P : Nat → ww_F} (hm : ww_mem 1 (fun _ => P) (fun _ => 1) a1 a2 a3 a4 a5 a6)
    (H : ∀ (n : Nat) (K : Nat → ww_V) (g7 g8 g9 g10 g11 g12 : Nat → Int32), ww_Q 1 n K g7 g9 g10 → ww_gi (ww_ro P) (ww_A 1 (fun _ => P)) n K n 0 → post (nI 1, nI n, nI n, a1, a2, a3, a4, a5, a6, g7, g8, g9, g10, g11, g12, a13)) :
    wpX_gather post (nI 1, fw, fb, a1, a2, a3, a4, a5, a6, a7, a8, a9, a10, a11, a12, a13) := by
  unfold wpX_gather
  refine ww_start (by omega) hm (fun g hg => ?_)
  rw [← ww_rw_1] at hg
  refine ww_keep (n := 0) (K := fun _ _ => 0) (d := 1) (by omega) (ww_Q_0 1 _ _ _ _) (ww_rw_su 1 _ _ _) hg (fun hs g'' => ?_) (fun K' g7 g9 g10 g12' hK' hKn hQ' => ?_)
  · exact ⟨8, ww_ga21 hm H 8 0 0 (fun _ _ => 0) _ _ _ _ _ _ (ww_Q_0 1 (fun _ _ => 0) _ _ _) (ww_gi_0 hs) (by omega) (by omega)⟩
  · exact ⟨8, ww_ga21 hm H 8 0 1 K' _ _ _ _ _ _ hQ' (ww_gi_1 hKn) (by omega) (by omega)⟩
/-! columns -/
def ww_bs (P : Nat → ww_F) (c : Nat) (v : ww_V) (p : Nat) : Nat → ww_F
  | 0 => 0
  | q + 1 => ww_bs P c v p q + P (4 + 4 * c + 2 * p + q) * v q
theorem ww_bs_2 (P : Nat → ww_F) (c : Nat) (v : ww_V) {p : Nat} (hp : p < 2) : ww_bs P c v p 2 = ww_B P c v p := by
  show (0 + P (4 + 4 * c + 2 * p) * v 0) + P (4 + 4 * c + 2 * p + 1) * v 1 = ww_B P c v p
  unfold ww_B
  rw [if_pos hp, Fin.zero_add]
theorem ww_sb36 {post : St2 → Prop} {J : Int32 → (Nat → Int32) → (Nat → Int32) → (Nat → Int32) → (Nat → Int32) → (Nat → Int32) → (Nat → Int32) → (Nat → Int32) → (Nat → Int32) → (Nat → Int32) → (Nat → Int32) → (Nat → Int32) → (Nat → Int32) → (Nat → Int32) → Prop} {a c p : Nat} {P : Nat → ww_F} {v : ww_V} (ha : a < 3) (hc : c < 2) (hp : p < 2) (hM : ww_M a1 a2 a3 a4 a P) (h11 : ∀ k, k < 12 → a11 k = ww_z (v k)) (h12 : a12 p = 0)
    (H : ∀ g : Nat → Int32, (∀ j, j ≠ p → g j = a12 j) → g p = ww_z (ww_B P c v p) → J (nI (p + 1)) a1 a2 a3 a4 a5 a6 a7 a8 a9 a10 a11 g a13) : ∃ n, wX_stepBack_36 post J (nI a) (nI c) (nI p) m fw fb n 0 a1 a2 a3 a4 a5 a6 a7 a8 a9 a10 a11 a12 a13 := by
  have e1 : a1 (nI a).toNatClampNeg = nI 2 := by rw [nI_clamp (by omega), hM.1]
  refine pk_loop (fun n q s => wX_stepBack_36 post J (nI a) (nI c) (nI p) m fw fb n (nI q) a1 a2 a3 a4 a5 a6 a7 a8 a9 a10 a11 s a13) (fun q s => (∀ j, j ≠ p → s j = a12 j) ∧ s p = ww_z (ww_bs P c v p q)) 2 0 a12 (by omega) ⟨fun _ _ => rfl, h12⟩ (fun n s h => ?_) (fun n q s hq h hw => ?_)
  · refine And.intro (pk_in a 3 ha) (pk_le 2 2 (fun _ => nm_r (nI_1 p) (H s h.1 ?_)) (fun z => absurd z (by omega)) e1)
    rw [h.2, ww_bs_2 P c v hp]
  · have ix : ((32 * nI a + 16 * nI c) + 4 * nI p) + nI q = nI (32 * a + 16 * c + 4 * p + q) := ww_iad a c p q
    refine And.intro (pk_in a 3 ha) (pk_le 2 q (fun z => absurd z (by omega)) (fun _ => ⟨pk_in p 12 (by omega), pk_in (32 * a + 16 * c + 4 * p + q) 96 (by omega) ix, pk_in q 12 (by omega), by decide, pk_in p 12 (by omega), nm_r (e' := upd s p (ww_z (ww_bs P c v p (q + 1)))) ?_ (nm_r (nI_1 q) (hw _ ⟨fun j hj => ?_, pk_us⟩))⟩) e1)
    · rw [ix, nI_clamp (show 32 * a + 16 * c + 4 * p + q < 2 ^ 31 by omega), nI_clamp (show p < 2 ^ 31 by omega), nI_clamp (show q < 2 ^ 31 by omega), h.2, hM.2.2.2 c p q hc hp hq, h11 q (by omega), ww_mac]
      rfl
    · rw [pk_un hj]
      exact h.1 j hj
theorem ww_back {post : St2 → Prop} {a c : Nat} {P : Nat → ww_F} {v : ww_V} (ha : a < 3) (hc : c < 2) (hM : ww_M a1 a2 a3 a4 a P) (h11 : ∀ k, k < 12 → a11 k = ww_z (v k))
    (H : ∀ g h : Nat → Int32, (∀ k, k < 12 → g k = ww_z (ww_B P c v k)) → post (m, fw, fb, a1, a2, a3, a4, a5, a6, a7, a8, a9, a10, g, h, a13)) : wpX_stepBack post (m, fw, fb, a1, a2, a3, a4, a5, a6, a7, a8, a9, a10, a11, a12, a13) (nI a) (nI c) := by
  have e1 : a1 (nI a).toNatClampNeg = nI 2 := by rw [nI_clamp (by omega), hM.1]
  have c107 : ∀ s : Nat → Int32, (∀ j, j < 12 → s j = ww_z (ww_B P c v j)) → ∃ n, wX_stepBack_107 post m fw fb n 0 a1 a2 a3 a4 a5 a6 a7 a8 a9 a10 a11 s a13 := fun s hs =>
    pk_loop (fun n i g => wX_stepBack_107 post m fw fb n (nI i) a1 a2 a3 a4 a5 a6 a7 a8 a9 a10 g s a13) (fun i g => ∀ k, k < i → g k = ww_z (ww_B P c v k)) 12 0 a11 (by omega) (fun k hk => absurd hk (by omega))
      (fun n g h => pk_le 12 12 (fun _ => H g s h) (fun z => absurd z (by omega)))
      (fun n i g hi h hw => pk_le 12 i (fun z => absurd z (by omega)) (fun _ => ⟨pk_in i 12 hi, pk_in i 12 hi, nm_e (nm_r (nI_1 i) (hw _ (ww_fill (f := fun k => ww_z (ww_B P c v k)) (nI_clamp (by omega)) h (by rw [nI_clamp (by omega), hs i hi]))))⟩))
  have c23 : ∀ s : Nat → Int32, (∀ j, j < 12 → s j = 0) → ∃ n, wX_stepBack_23 post (nI a) (nI c) m fw fb n 0 a1 a2 a3 a4 a5 a6 a7 a8 a9 a10 a11 s a13 := by
    intro s hs
    refine pk_loop (fun n p g => wX_stepBack_23 post (nI a) (nI c) m fw fb n (nI p) a1 a2 a3 a4 a5 a6 a7 a8 a9 a10 a11 g a13) (fun p g => ∀ j, j < 12 → g j = if j < p then ww_z (ww_B P c v j) else 0) 2 0 s (by omega) (fun j hj => ?_) (fun n g h => ?_) (fun n p g hp h hw => ?_)
    · rw [if_neg (by omega)]
      exact hs j hj
    · refine And.intro (pk_in a 3 ha) (pk_le 2 2 (fun _ => c107 g (fun j hj => ?_)) (fun z => absurd z (by omega)) e1)
      rw [h j hj]
      by_cases e : j < 2
      · rw [if_pos e]
      · rw [if_neg e, ww_B_su P c v j (fun z => e (by have := z.1; have := z.2; omega))]
        rfl
    · refine And.intro (pk_in a 3 ha) (pk_le 2 p (fun z => absurd z (by omega)) (fun _ => ww_sb36 ha hc hp hM h11 ?_ (fun g' g1 g2 => hw g' (fun j hj => ?_))) e1)
      · rw [h p (by omega), if_neg (by omega)]
      · by_cases e : j = p
        · rw [e, if_pos (by omega)]
          exact g2
        · rw [g1 j e, h j hj]
          by_cases e2 : j < p
          · rw [if_pos e2, if_pos (by omega)]
          · rw [if_neg e2, if_neg (by omega)]
  show ∃ n, wX_stepBack_2 post (nI a) (nI c) m fw fb n 0 a1 a2 a3 a4 a5 a6 a7 a8 a9 a10 a11 a12 a13
  exact pk_loop (fun n i s => wX_stepBack_2 post (nI a) (nI c) m fw fb n (nI i) a1 a2 a3 a4 a5 a6 a7 a8 a9 a10 a11 s a13) (fun i s => ∀ k, k < i → s k = 0) 12 0 a12 (by omega) (fun k hk => absurd hk (by omega))
    (fun n s h => pk_le 12 12 (fun _ => c23 s h) (fun z => absurd z (by omega)))
    (fun n i s hi h hw => pk_le 12 i (fun z => absurd z (by omega)) (fun _ => ⟨pk_in i 12 hi, nm_e (nm_r (nI_1 i) (hw _ (ww_fill (f := fun _ => 0) (nI_clamp (by omega)) h rfl)))⟩))
theorem ww_gb77 {post : St2 → Prop} {J : Int32 → Int32 → Int32 → Int32 → (Nat → Int32) → (Nat → Int32) → (Nat → Int32) → (Nat → Int32) → (Nat → Int32) → (Nat → Int32) → (Nat → Int32) → (Nat → Int32) → (Nat → Int32) → (Nat → Int32) → (Nat → Int32) → (Nat → Int32) → (Nat → Int32) → Prop} {a : Nat} {P : Nat → ww_F} (ha : a < 3) (hM : ww_M a1 a2 a3 a4 a P)
    {f k c n : Nat} {K : Nat → ww_V} (hk : k < n) (hc : c < 2) (hQ : ww_Q 1 n K a7 a9 a10) (hgi : ww_gi (ww_cl P) (ww_B P) n K k c)
    (HW : ∀ (n' : Nat) (K' : Nat → ww_V) (g7 g8 g9 g10 g11 g12 : Nat → Int32), n ≤ n' → ww_Q 1 n' K' g7 g9 g10 → ww_gi (ww_cl P) (ww_B P) n' K' k (c + 1) → wX_gatherBack_77 post J (nI a) (nI k) f (nI (c + 1)) m (nI n') (nI n') a1 a2 a3 a4 a5 a6 g7 g8 g9 g10 g11 g12 a13) :
    wX_gatherBack_77 post J (nI a) (nI k) (f + 1) (nI c) m (nI n) (nI n) a1 a2 a3 a4 a5 a6 a7 a8 a9 a10 a11 a12 a13 := by
  have hle := ww_Q_le hQ
  have h7 : ∀ i, i < 12 → a7 (12 * k + i) = ww_z (K k i) := by
    obtain ⟨R, pv, _, h, _⟩ := hQ
    exact (h k hk).1
  refine pk_le 2 c (fun z => absurd z (by omega)) (fun _ => ?_)
  refine ww_take (by omega) h7 (fun g hg => ?_)
  refine ww_back ha hc hM hg (fun g' g12 hg' => ?_)
  refine ww_keep (by omega) hQ (ww_B_su P c _) hg' (fun hs g'' => nm_r (nI_1 c) (HW n K _ _ _ _ _ _ (Nat.le_refl n) hQ (ww_gi_in hgi hs))) (fun K' g7 g9 g10 g12' hK' hKn hQ' => nm_r (nI_1 c) ?_)
  exact HW (n + 1) K' _ _ _ _ _ _ (by omega) hQ' (ww_gi_new hgi hk hc (fun m c h1 h2 => ww_cl_s P h1 h2) hK' hKn)
theorem ww_gb61 {post : St2 → Prop} {a : Nat} {P : Nat → ww_F} (ha : a < 3) (hM : ww_M a1 a2 a3 a4 a P)
    (H : ∀ (n : Nat) (K : Nat → ww_V) (g7 g8 g9 g10 g11 g12 : Nat → Int32), ww_Q 1 n K g7 g9 g10 → ww_gi (ww_cl P) (ww_B P) n K n 0 → post (m, nI n, nI n, a1, a2, a3, a4, a5, a6, g7, g8, g9, g10, g11, g12, a13)) :
    ∀ (f k n : Nat) (K : Nat → ww_V) (a7 a8 a9 a10 a11 a12 : Nat → Int32), ww_Q 1 n K a7 a9 a10 → ww_gi (ww_cl P) (ww_B P) n K k 0 → k ≤ n → 7 - k < f → wX_gatherBack_61 post (nI a) f (nI k) m (nI n) (nI n) a1 a2 a3 a4 a5 a6 a7 a8 a9 a10 a11 a12 a13 := by
  intro f
  induction f with
  | zero => intro k n K a7 a8 a9 a10 a11 a12 hQ _ _ hf; omega
  | succ f ih =>
    intro k n K a7 a8 a9 a10 a11 a12 hQ hgi hkn hf
    have hle := ww_Q_le hQ
    refine pk_le 12 k (fun z => absurd z (by omega)) (fun _ => pk_le n k (fun z => ?_) (fun z => ⟨3, ?_⟩))
    · have e : k = n := by omega
      subst e
      exact H k K _ _ _ _ _ _ hQ hgi
    · refine ww_gb77 (c := 0) ha hM z (by omega) hQ hgi (fun n1 K1 g7 g8 g9 g10 g11 g12 hn1 hQ1 hgi1 => ?_)
      refine ww_gb77 (c := 1) ha hM (by omega) (by omega) hQ1 hgi1 (fun n2 K2 g7' g8' g9' g10' g11' g12' hn2 hQ2 hgi2 => ?_)
      exact pk_le 2 2 (fun _ => nm_r (nI_1 k) (ih (k + 1) n2 K2 _ _ _ _ _ _ hQ2 (ww_gi_next hgi2) (by omega) (by omega))) (fun z => absurd z (by omega))
theorem ww_gback {post : St2 → Prop} {a : Nat} {P : Nat → ww_F} (ha : a < 3) (hM : ww_M a1 a2 a3 a4 a P)
    (H : ∀ (n : Nat) (K : Nat → ww_V) (g7 g8 g9 g10 g11 g12 : Nat → Int32), ww_Q 1 n K g7 g9 g10 → ww_gi (ww_cl P) (ww_B P) n K n 0 → post (m, nI n, nI n, a1, a2, a3, a4, a5, a6, g7, g8, g9, g10, g11, g12, a13)) :
    wpX_gatherBack post (m, fw, fb, a1, a2, a3, a4, a5, a6, a7, a8, a9, a10, a11, a12, a13) (nI a) := by
  have e1 : a1 (nI a).toNatClampNeg = nI 2 := by rw [nI_clamp (by omega), hM.1]
  show ∃ n, wX_gatherBack_12 post (nI a) m 0 0 n 0 a1 a2 a3 a4 a5 a6 a7 a8 a9 a10 a11 a12 a13
  refine pk_loop (fun n i s => wX_gatherBack_12 post (nI a) m 0 0 n (nI i) a1 a2 a3 a4 a5 a6 a7 a8 a9 a10 s a12 a13) (fun i s => ∀ k, k < i → s k = ww_z (ww_cl P 1 k)) 12 0 a11 (by omega) (fun k hk => absurd hk (by omega)) (fun n s h => ?_) (fun n i s hi h hw => ?_)
  · refine pk_le 12 12 (fun _ => ?_) (fun z => absurd z (by omega))
    refine ww_keep (n := 0) (K := fun _ _ => 0) (d := 1) (by omega) (ww_Q_0 1 _ _ _ _) (ww_cl_su P 1) h (fun hs g'' => ?_) (fun K' g7 g9 g10 g12' hK' hKn hQ' => ?_)
    · exact ⟨8, ww_gb61 ha hM H 8 0 0 (fun _ _ => 0) _ _ _ _ _ _ (ww_Q_0 1 (fun _ _ => 0) _ _ _) (ww_gi_0 hs) (by omega) (by omega)⟩
    · exact ⟨8, ww_gb61 ha hM H 8 0 1 K' _ _ _ _ _ _ hQ' (ww_gi_1 hKn) (by omega) (by omega)⟩
  · refine pk_le 12 i (fun z => absurd z (by omega)) (fun _ => ⟨pk_in a 3 ha, pk_le 2 i (fun z => ⟨pk_in i 12 hi, nm_e (nm_r (nI_1 i) (hw _ (ww_fill (f := fun k => ww_z (ww_cl P 1 k)) (nI_clamp (by omega)) h ?_)))⟩) (fun z => ⟨pk_in (4 * a + i) 12 (by omega) (ww_i4 a i), pk_in i 12 hi, nm_e (nm_r (nI_1 i) (hw _ (ww_fill (f := fun k => ww_z (ww_cl P 1 k)) (nI_clamp (by omega)) h ?_)))⟩) e1⟩)
    · show 0 = ww_z (ww_cl P 1 i)
      unfold ww_cl
      rw [if_neg (by omega)]
      rfl
    · show a3 (4 * nI a + nI i).toNatClampNeg = ww_z (ww_cl P 1 i)
      unfold ww_cl
      rw [if_pos z, ww_c_1, ww_i4, nI_clamp (by omega), hM.2.2.1 i z]
end
end
section
def ww_ns (u v : ww_V) : Nat → ww_F
  | 0 => 0
  | q + 1 => ww_ns u v q + u q * v q
theorem ww_ns_4 {u v : ww_V} (hu : ww_su 1 u) : ww_ns u v 4 = ww_be u v := by
  have h2 : u 2 = 0 := hu 2 (fun z => absurd z.2 (by decide))
  have h3 : u 3 = 0 := hu 3 (fun z => absurd z.2 (by decide))
  show (((0 + u 0 * v 0) + u 1 * v 1) + u 2 * v 2) + u 3 * v 3 = u 0 * v 0 + u 1 * v 1
  rw [h2, h3, Fin.zero_mul, Fin.zero_mul, Fin.add_zero, Fin.add_zero, Fin.zero_add]
theorem ww_i16 (a q : Nat) : (16 + 4 * nI a) + nI q = nI (16 + 4 * a + q) := by rw [show (16 : Int32) = nI 16 from rfl, show (4 : Int32) = nI 4 from rfl, pk_mul, nI_add, nI_add]
/-- the kept rows and columns -/
def ww_kp (n1 n2 : Nat) (K C : Nat → ww_V) (a13 : Nat → Int32) : Prop := (∀ i q, i < n1 → q < 4 → a13 (4 * i + q) = ww_z (K i q)) ∧ (∀ j q, j < n2 → q < 4 → a13 (16 + 4 * j + q) = ww_z (C j q))
section
variable {a1 a2 a3 a4 a5 a6 a7 a8 a9 a10 a11 a12 a13 : Nat → Int32}
variable {m fw fb : Int32}
theorem ww_rk177 {post : Int32 → St2 → Prop} {J150 : Int32 → Int32 → Int32 → Int32 → (Nat → Int32) → (Nat → Int32) → (Nat → Int32) → (Nat → Int32) → (Nat → Int32) → (Nat → Int32) → (Nat → Int32) → (Nat → Int32) → (Nat → Int32) → (Nat → Int32) → (Nat → Int32) → (Nat → Int32) → (Nat → Int32) → Prop} {J159 : Int32 → (Nat → Int32) → (Nat → Int32) → (Nat → Int32) → (Nat → Int32) → (Nat → Int32) → (Nat → Int32) → (Nat → Int32) → (Nat → Int32) → (Nat → Int32) → (Nat → Int32) → (Nat → Int32) → (Nat → Int32) → (Nat → Int32) → Prop} {x2 : Int32} {n1 n2 i j : Nat} {K C : Nat → ww_V} (hn1 : n1 ≤ 2) (hn2 : n2 ≤ 2) (hi : i < n1) (hj : j < 12) (hK : ww_su 1 (K i)) (hkp : ww_kp n1 n2 K C a13) (h11 : a11 j = 0)
    (H : ∀ g : Nat → Int32, (∀ k, k ≠ j → g k = a11 k) → g j = ww_z (ww_N n2 K C i j) → J159 (nI (j + 1)) a1 a2 a3 a4 a5 a6 a7 a8 a9 a10 g a12 a13) : ∃ n, wX_rank_177 post J150 J159 x2 (nI n2) (nI i) (nI j) m fw fb n 0 a1 a2 a3 a4 a5 a6 a7 a8 a9 a10 a11 a12 a13 := by
  by_cases hj2 : j < n2
  · refine pk_loop (fun n q s => wX_rank_177 post J150 J159 x2 (nI n2) (nI i) (nI j) m fw fb n (nI q) a1 a2 a3 a4 a5 a6 a7 a8 a9 a10 s a12 a13) (fun q s => (∀ k, k ≠ j → s k = a11 k) ∧ s j = ww_z (ww_ns (K i) (C j) q)) 4 0 a11 (by omega) ⟨fun _ _ => rfl, h11⟩ (fun n s h => ?_) (fun n q s hq h hw => ?_)
    · refine pk_le 4 4 (fun _ => nm_r (nI_1 j) (H s h.1 ?_)) (fun z => absurd z (by omega))
      rw [h.2, ww_ns_4 hK]
      unfold ww_N
      rw [if_pos hj2]
    · refine pk_le 4 q (fun z => absurd z (by omega)) (fun _ => pk_le n2 j (fun z => absurd z (by omega)) (fun _ => ⟨pk_in j 12 hj, pk_in (4 * i + q) 48 (by omega) (ww_i4 i q), pk_in (16 + 4 * j + q) 48 (by omega) (ww_i16 j q), by decide, pk_in j 12 hj, nm_r (e' := upd s j (ww_z (ww_ns (K i) (C j) (q + 1)))) ?_ (nm_r (nI_1 q) (hw _ ⟨fun k hk => ?_, pk_us⟩))⟩))
      · rw [ww_i4, ww_i16, nI_clamp (show j < 2 ^ 31 by omega), nI_clamp (show 4 * i + q < 2 ^ 31 by omega), nI_clamp (show 16 + 4 * j + q < 2 ^ 31 by omega), h.2, hkp.1 i q hi hq, hkp.2 j q hj2 hq, ww_mac]
        rfl
      · rw [pk_un hk]
        exact h.1 k hk
  · refine ⟨1, pk_le 4 0 (fun z => absurd z (by omega)) (fun _ => pk_le n2 j (fun _ => nm_r (nI_1 j) (H a11 (fun _ _ => rfl) ?_)) (fun z => absurd z (by omega)))⟩
    rw [h11]
    unfold ww_N
    rw [if_neg hj2]
    rfl
theorem ww_rk159 {post : Int32 → St2 → Prop} {J : Int32 → Int32 → Int32 → Int32 → (Nat → Int32) → (Nat → Int32) → (Nat → Int32) → (Nat → Int32) → (Nat → Int32) → (Nat → Int32) → (Nat → Int32) → (Nat → Int32) → (Nat → Int32) → (Nat → Int32) → (Nat → Int32) → (Nat → Int32) → (Nat → Int32) → Prop} {x2 : Int32} {n1 n2 i : Nat} {K C : Nat → ww_V} (hn1 : n1 ≤ 2) (hn2 : n2 ≤ 2) (hi : i < n1) (hK : ww_su 1 (K i)) (hkp : ww_kp n1 n2 K C a13)
    (H : ∀ g : Nat → Int32, (∀ k, k < 12 → g k = ww_z (ww_N n2 K C i k)) → wpX_enterBasis (fun _ u => match u with | (f1, f2, f3, b1, b2, b3, b4, b5, b6, b7, b8, b9, b10, b11, b12, b13) => ∀ x : Int32, x = nI i + 1 → J x f1 f2 f3 b1 b2 b3 b4 b5 b6 b7 b8 b9 b10 b11 b12 b13) (m, fw, fb, a1, a2, a3, a4, a5, a6, a7, a8, a9, a10, g, a12, a13)) :
    ∃ n, wX_rank_159 post J x2 (nI n2) (nI i) m fw fb n 0 a1 a2 a3 a4 a5 a6 a7 a8 a9 a10 a11 a12 a13 := by
  refine pk_loop (fun n j s => wX_rank_159 post J x2 (nI n2) (nI i) m fw fb n (nI j) a1 a2 a3 a4 a5 a6 a7 a8 a9 a10 s a12 a13) (fun j s => ∀ k, k < j → s k = ww_z (ww_N n2 K C i k)) 12 0 a11 (by omega) (fun k hk => absurd hk (by omega)) (fun n s h => ?_) (fun n j s hj h hw => ?_)
  · exact pk_le 12 12 (fun _ => H s h) (fun z => absurd z (by omega))
  · refine pk_le 12 j (fun z => absurd z (by omega)) (fun _ => ⟨pk_in j 12 hj, nm_r (e' := upd s j 0) (by rw [nI_clamp (by omega)]) (ww_rk177 hn1 hn2 hi hj hK hkp pk_us (fun g g1 g2 => hw g (fun k hk => ?_)))⟩)
    by_cases e : k = j
    · rw [e]
      exact g2
    · rw [g1 k e, pk_un e]
      exact h k (by omega)
theorem ww_rk150 {post : Int32 → St2 → Prop} {n1 n2 : Nat} {K C : Nat → ww_V} (hn1 : n1 ≤ 2) (hn2 : n2 ≤ 2) (hK : ∀ i, i < n1 → ww_su 1 (K i)) (hkp : ww_kp n1 n2 K C a13)
    (H : ∀ (t : Nat) (R : Nat → ww_V) (pv : Nat → Nat) (g9 g10 g11 g12 : Nat → Int32), ww_tri R pv t → ww_ri (ww_N n2 K C) R n1 t → post (nI t) (m, fw, nI t, a1, a2, a3, a4, a5, a6, a7, a8, g9, g10, g11, g12, a13)) :
    ∀ (f i t : Nat) (R : Nat → ww_V) (pv : Nat → Nat) (a9 a10 a11 a12 : Nat → Int32), ww_bas 1 t R pv a9 a10 → ww_ri (ww_N n2 K C) R i t → i ≤ n1 → n1 - i < f → wX_rank_150 post (nI n1) (nI n2) f (nI i) m fw (nI t) a1 a2 a3 a4 a5 a6 a7 a8 a9 a10 a11 a12 a13 := by
  intro f
  induction f with
  | zero => intro i t R pv a9 a10 a11 a12 _ _ _ hf; omega
  | succ f ih =>
    intro i t R pv a9 a10 a11 a12 hB hri hin hf
    refine pk_le n1 i (fun z => ?_) (fun z => ?_)
    · have e : i = n1 := by omega
      subst e
      exact H t R pv _ _ _ _ hB.1 hri
    · refine ww_rk159 hn1 hn2 z (hK i z) hkp (fun g hg => ?_)
      refine ww_enter (by omega) hB (ww_N_su hn2 K C i) hg (fun hs g' => nm_r (nI_1 i) (ih (i + 1) t R pv _ _ _ _ hB (ww_ri_in hri hs) (by omega) (by omega))) (fun R' pv' g9 g10 g12 hR' hB' hs1 hs2 hs3 => nm_r (nI_1 i) ?_)
      exact ih (i + 1) (t + 1) R' pv' _ _ _ _ hB' (ww_ri_new hri (by omega) hB.1 hR' hs1 hs2 hs3) (by omega) (by omega)
theorem ww_rk87 {post : Int32 → St2 → Prop} {n1 n2 : Nat} {K C : Nat → ww_V} (hn1 : n1 ≤ 2) (hn2 : n2 ≤ 2) (hK : ∀ i, i < n1 → ww_su 1 (K i)) (h7 : ∀ j q, j < n2 → q < 4 → a7 (12 * j + q) = ww_z (C j q)) (h13 : ∀ i q, i < n1 → q < 4 → a13 (4 * i + q) = ww_z (K i q))
    (H : ∀ (t : Nat) (R : Nat → ww_V) (pv : Nat → Nat) (g9 g10 g11 g12 g13 : Nat → Int32), ww_tri R pv t → ww_ri (ww_N n2 K C) R n1 t → post (nI t) (m, fw, nI t, a1, a2, a3, a4, a5, a6, a7, a8, g9, g10, g11, g12, g13)) :
    ∃ n, wX_rank_87 post (nI n1) (nI n2) m fw fb n 0 a1 a2 a3 a4 a5 a6 a7 a8 a9 a10 a11 a12 a13 := by
  refine pk_loop (fun n k s => wX_rank_87 post (nI n1) (nI n2) m fw fb n (nI k) a1 a2 a3 a4 a5 a6 a7 a8 a9 a10 a11 a12 s) (fun k s => ww_kp n1 k K C s) n2 0 a13 (by omega) ⟨h13, fun j q hj => absurd hj (by omega)⟩ (fun n s h => ?_) (fun n k s hk h hw => ?_)
  · exact pk_le n2 n2 (fun _ => ⟨n1 + 1, ww_rk150 hn1 hn2 hK h (fun t R pv g9 g10 g11 g12 h1 h2 => H t R pv g9 g10 g11 g12 s h1 h2) (n1 + 1) 0 0 (fun _ _ => 0) (fun _ => 0) _ _ _ _ ⟨fun b hb => absurd hb (by omega), fun b hb => absurd hb (by omega)⟩ (ww_ri_0 _ _) (by omega) (by omega)⟩) (fun z => absurd z (by omega))
  · refine pk_le n2 k (fun z => absurd z (by omega)) (fun _ => ?_)
    refine pk_loop (fun f q g => wX_rank_96 post (wX_rank_87 post (nI n1) (nI n2) m fw fb n) (nI n1) (nI n2) (nI k) m fw fb f (nI q) a1 a2 a3 a4 a5 a6 a7 a8 a9 a10 a11 a12 g) (fun q g => ww_kp n1 k K C g ∧ ∀ r, r < q → g (16 + 4 * k + r) = ww_z (C k r)) 4 0 s (by omega) ⟨h, fun r hr => absurd hr (by omega)⟩ (fun f g hg => ?_) (fun f q g hq hg hw2 => ?_)
    · refine pk_le 4 4 (fun _ => nm_r (nI_1 k) (hw g ⟨hg.1.1, fun j q hj hq => ?_⟩)) (fun z => absurd z (by omega))
      by_cases e : j = k
      · rw [e]
        exact hg.2 q hq
      · exact hg.1.2 j q (by omega) hq
    · refine pk_le 4 q (fun z => absurd z (by omega)) (fun _ => ⟨pk_in (12 * k + q) 168 (by omega) (ww_i12 k q), pk_in (16 + 4 * k + q) 48 (by omega) (ww_i16 k q), nm_r (e' := upd g (16 + 4 * k + q) (ww_z (C k q))) ?_ (nm_r (nI_1 q) (hw2 _ ⟨⟨fun i r hi hr => ?_, fun j r hj hr => ?_⟩, fun r hr => ?_⟩))⟩)
      · rw [ww_i12, ww_i16, nI_clamp (show 12 * k + q < 2 ^ 31 by omega), nI_clamp (show 16 + 4 * k + q < 2 ^ 31 by omega), h7 k q hk hq]
      · rw [pk_un (by omega)]
        exact hg.1.1 i r hi hr
      · rw [pk_un (by omega)]
        exact hg.1.2 j r hj hr
      · by_cases e : r = q
        · rw [e, pk_us]
        · rw [pk_un (by omega)]
          exact hg.2 r (by omega)
theorem ww_rankX {post : Int32 → St2 → Prop} {a : Nat} {P : Nat → ww_F} (ha : a < 3) (hM : ww_M a1 a2 a3 a4 a P)
    (H : ∀ (t : Nat) (m' fw' fb' : Int32) (g5 g6 g7 g8 g9 g10 g11 g12 g13 : Nat → Int32), ww_rk (ww_w P) t → post (nI t) (m', fw', fb', a1, a2, a3, a4, g5, g6, g7, g8, g9, g10, g11, g12, g13)) :
    wpX_rank post (m, fw, fb, a1, a2, a3, a4, a5, a6, a7, a8, a9, a10, a11, a12, a13) (nI a) := by
  unfold wpX_rank
  refine ww_good ha (br_f (by decide) (ww_alone (ww_gather (ww_mem1 ha hM) (fun n1 K g7 g8 g9 g10 g11 g12 hQ hgi => ?_))))
  have hn1 := ww_Q_le hQ
  obtain ⟨R1, pv1, hB1, hK1, hS1⟩ := hQ
  refine pk_loop (fun f k s => wX_rank_25 post (nI a) (nI n1) (nI 1) (nI n1) (nI n1) f (nI k) a1 a2 a3 a4 (upd a5 0 (nI a)) (upd a6 0 1) g7 g8 g9 g10 g11 g12 s) (fun k s => ∀ i q, i < k → q < 4 → s (4 * i + q) = ww_z (K i q)) n1 0 a13 (by omega) (fun i q hi => absurd hi (by omega)) (fun f s h => ?_) (fun f k s hk h hw => ?_)
  · refine pk_le n1 n1 (fun _ => ?_) (fun z => absurd z (by omega))
    refine ww_gback ha hM (fun n2 C h7 h8 h9 h10 h11 h12 hQ2 hgi2 => ?_)
    have hn2 := ww_Q_le hQ2
    obtain ⟨R2, pv2, hB2, hK2, hS2⟩ := hQ2
    refine ww_rk87 (K := K) (C := C) (by omega) (by omega) (fun i hi => (hK1 i hi).2) (fun j q hj hq => (hK2 j hj).1 q (by omega)) h (fun t R pv k9 k10 k11 k12 k13 htri hri => H t _ _ _ _ _ _ _ _ _ _ _ _ ?_)
    exact ww_ri_end (K := K) (C := C) (by omega) hgi.1 (fun m hm => ww_gi_end hgi (fun c P hP => ww_A_lin 1 _ c hP) (fun m c h1 h2 => ww_rw_s 1 _ _ h1 h2) m m (Nat.le_refl m) hm) hgi2.1 (fun m hm => ww_gi_end hgi2 (fun c P' hP => ww_B_lin P c hP) (fun m c h1 h2 => ww_cl_s P h1 h2) m m (Nat.le_refl m) hm) htri hri
  · refine pk_le n1 k (fun z => absurd z (by omega)) (fun _ => ?_)
    refine pk_loop (fun f' q g => wX_rank_33 post (wX_rank_25 post (nI a) (nI n1) (nI 1) (nI n1) (nI n1) f) (nI a) (nI n1) (nI k) (nI 1) (nI n1) (nI n1) f' (nI q) a1 a2 a3 a4 (upd a5 0 (nI a)) (upd a6 0 1) g7 g8 g9 g10 g11 g12 g) (fun q g => (∀ i r, i < k → r < 4 → g (4 * i + r) = ww_z (K i r)) ∧ ∀ r, r < q → g (4 * k + r) = ww_z (K k r)) 4 0 s (by omega) ⟨h, fun r hr => absurd hr (by omega)⟩ (fun f' g hg => ?_) (fun f' q g hq hg hw2 => ?_)
    · refine pk_le 4 4 (fun _ => nm_r (nI_1 k) (hw g (fun i r hi hr => ?_))) (fun z => absurd z (by omega))
      by_cases e : i = k
      · rw [e]
        exact hg.2 r hr
      · exact hg.1 i r (by omega) hr
    · refine pk_le 4 q (fun z => absurd z (by omega)) (fun _ => ⟨pk_in (12 * k + q) 168 (by omega) (ww_i12 k q), pk_in (4 * k + q) 48 (by omega) (ww_i4 k q), nm_r (e' := upd g (4 * k + q) (ww_z (K k q))) ?_ (nm_r (nI_1 q) (hw2 _ ⟨fun i r hi hr => ?_, fun r hr => ?_⟩))⟩)
      · rw [ww_i12, ww_i4, nI_clamp (show 12 * k + q < 2 ^ 31 by omega), nI_clamp (show 4 * k + q < 2 ^ 31 by omega), (hK1 k hk).1 q (by omega)]
      · rw [pk_un (by omega)]
        exact hg.1 i r hi hr
      · by_cases e : r = q
        · rw [e, pk_us]
        · rw [pk_un (by omega)]
          exact hg.2 r (by omega)
end
end
section
/-- all but the automaton a is left as it was -/
def ww_off (a : Nat) (a1 a2 a3 a4 g1 g2 g3 g4 : Nat → Int32) : Prop := (∀ k, k ≠ a → g1 k = a1 k) ∧ (∀ j, j < 4 * a ∨ 4 * a + 4 ≤ j → g2 j = a2 j) ∧ (∀ j, j < 4 * a ∨ 4 * a + 4 ≤ j → g3 j = a3 j) ∧ (∀ j, j < 32 * a ∨ 32 * a + 32 ≤ j → g4 j = a4 j)
theorem ww_M_off {a mu : Nat} {P : Nat → ww_F} {a1 a2 a3 a4 g1 g2 g3 g4 : Nat → Int32} (h : ww_off a a1 a2 a3 a4 g1 g2 g3 g4) (hne : mu ≠ a) (hM : ww_M a1 a2 a3 a4 mu P) : ww_M g1 g2 g3 g4 mu P := by
  refine ⟨?_, fun q hq => ?_, fun q hq => ?_, fun c p q hc hp hq => ?_⟩
  · rw [h.1 mu hne]
    exact hM.1
  · rw [h.2.1 _ (by omega)]
    exact hM.2.1 q hq
  · rw [h.2.2.1 _ (by omega)]
    exact hM.2.2.1 q hq
  · rw [h.2.2.2 _ (by omega)]
    exact hM.2.2.2 c p q hc hp hq
section
variable {a1 a2 a3 a4 a5 a6 a7 a8 a9 a10 a11 a12 a13 : Nat → Int32}
variable {m fw fb : Int32}
theorem ww_init {post : St2 → Prop} (H : ∀ g1 g2 g3 g4 g5 g6 g7 g8 g9 g10 g11 g12 g13 : Nat → Int32, post (0, 0, 0, g1, g2, g3, g4, g5, g6, g7, g8, g9, g10, g11, g12, g13)) : wpX_init post 13 565 (0, 0, 0) := by
  unfold wpX_init
  refine ⟨by decide, by decide, by decide, by decide, by decide, by decide, by decide, by decide, by decide, by decide, by decide, by decide, by decide, by decide, by decide, by decide, by decide, by decide, by decide, by decide, by decide, by decide, by decide, by decide, by decide, by decide, ?_⟩
  refine pk_loop (fun n i s => wX_init_109 post 13 565 13 565 0 0 0 n (nI i) s (fun _ => 0) (fun _ => 0) (fun _ => 0) (fun _ => 0) (fun _ => 0) (fun _ => 0) (fun _ => 0) (fun _ => 0) (fun _ => 0) (fun _ => 0) (fun _ => 0) (fun _ => 0)) (fun _ _ => True) 3 0 (fun _ => 0) (by omega) trivial (fun n s h => ?_) (fun n i s hi h hw => ?_)
  · exact pk_le 3 3 (fun _ => H _ _ _ _ _ _ _ _ _ _ _ _ _) (fun z => absurd z (by omega))
  · exact pk_le 3 i (fun z => absurd z (by omega)) (fun _ => ⟨pk_in i 3 hi, nm_e (nm_r (nI_1 i) (hw _ trivial))⟩)
theorem ww_size {post : Int32 → St2 → Prop} {a s : Nat} (ha : a < 3) (hs1 : 1 ≤ s) (hs2 : s ≤ 4)
    (H : ∀ (r : Int32) (g1 g2 g3 g4 : Nat → Int32), g1 a = nI s → ww_off a a1 a2 a3 a4 g1 g2 g3 g4 → post r (m, fw, fb, g1, g2, g3, g4, a5, a6, a7, a8, a9, a10, a11, a12, a13)) : wpX_size post (m, fw, fb, a1, a2, a3, a4, a5, a6, a7, a8, a9, a10, a11, a12, a13) (nI a) (nI s) := by
  have ea : (nI a).toNatClampNeg = a := nI_clamp (by omega)
  unfold wpX_size
  refine ww_good ha (br_f (by decide) (pk_lt s 1 (fun z => absurd z (by omega)) (fun _ => pk_le s 4 (fun _ => ⟨pk_in a 3 ha, nm_e ⟨pk_in a 3 ha, nm_r (e' := upd a1 a (nI s)) (by rw [ea]) ?_⟩⟩) (fun z => absurd z (by omega)))))
  have hg1 : ∀ k, k ≠ a → upd a1 a (nI s) k = a1 k := fun k hk => pk_un hk
  refine pk_loop (σ := (Nat → Int32) × (Nat → Int32)) (fun n q t => wX_size_39 post (nI a) (a1 (nI a).toNatClampNeg) m fw fb n (nI q) (upd a1 a (nI s)) t.1 t.2 a4 a5 a6 a7 a8 a9 a10 a11 a12 a13) (fun _ t => (∀ j, j < 4 * a ∨ 4 * a + 4 ≤ j → t.1 j = a2 j) ∧ (∀ j, j < 4 * a ∨ 4 * a + 4 ≤ j → t.2 j = a3 j)) 4 0 (a2, a3) (by omega) ⟨fun _ _ => rfl, fun _ _ => rfl⟩ (fun n t h => ?_) (fun n q t hq h hw => ?_)
  · refine pk_le 4 4 (fun _ => ?_) (fun z => absurd z (by omega))
    refine pk_loop (fun n k g => wX_size_78 post (nI a) (a1 (nI a).toNatClampNeg) m fw fb n (nI k) (upd a1 a (nI s)) t.1 t.2 g a5 a6 a7 a8 a9 a10 a11 a12 a13) (fun _ g => ∀ j, j < 32 * a ∨ 32 * a + 32 ≤ j → g j = a4 j) 32 0 a4 (by omega) (fun _ _ => rfl) (fun n g hg => ?_) (fun n k g hk hg hw => ?_)
    · exact pk_le 32 32 (fun _ => H _ _ _ _ _ pk_us ⟨hg1, h.1, h.2, hg⟩) (fun z => absurd z (by omega))
    · refine pk_le 32 k (fun z => absurd z (by omega)) (fun _ => ⟨pk_in (32 * a + k) 96 (by omega) (ww_i32 a k), nm_r (e' := upd g (32 * a + k) 0) (by rw [ww_i32, nI_clamp (by omega)]) (nm_r (nI_1 k) (hw _ (fun j hj => ?_)))⟩)
      rw [pk_un (by omega)]
      exact hg j hj
  · refine pk_le 4 q (fun z => absurd z (by omega)) (fun _ => ⟨pk_in (4 * a + q) 12 (by omega) (ww_i4 a q), nm_r (e' := upd t.1 (4 * a + q) 0) (by rw [ww_i4, nI_clamp (by omega)]) ⟨pk_in (4 * a + q) 12 (by omega) (ww_i4 a q), nm_r (e' := upd t.2 (4 * a + q) 0) (by rw [ww_i4, nI_clamp (by omega)]) (nm_r (nI_1 q) (hw (_, _) ⟨fun j hj => ?_, fun j hj => ?_⟩))⟩⟩)
    · show upd t.1 (4 * a + q) 0 j = a2 j
      rw [pk_un (by omega)]
      exact h.1 j hj
    · show upd t.2 (4 * a + q) 0 j = a3 j
      rw [pk_un (by omega)]
      exact h.2 j hj
theorem ww_mark0 {post : Int32 → St2 → Prop} {a q : Nat} {x : ww_F} (ha : a < 3) (hq : q < 2) (h1 : a1 a = nI 2) (H : ∀ r : Int32, post r (m, fw, fb, a1, upd a2 (4 * a + q) (ww_z x), a3, a4, a5, a6, a7, a8, a9, a10, a11, a12, a13)) : wpX_mark post (m, fw, fb, a1, a2, a3, a4, a5, a6, a7, a8, a9, a10, a11, a12, a13) (nI a) (nI q) 0 (ww_z x) := by
  have e1 : a1 (nI a).toNatClampNeg = nI 2 := by rw [nI_clamp (by omega), h1]
  unfold wpX_mark
  refine ww_good ha (br_f (by decide) (br_f (nI_pos (by omega)) ⟨pk_in a 3 ha, pk_lt q 2 (fun _ => nm_r (ww_i4 a q) (br_t rfl ⟨pk_in (4 * a + q) 12 (by omega), ?_⟩)) (fun z => absurd z (by omega)) rfl e1⟩))
  refine br_t rfl (ww_modu ⟨pk_in (4 * a + q) 12 (by omega), nm_r (e' := upd a2 (4 * a + q) (ww_z x)) (by rw [nI_clamp (by omega)]) (H _)⟩)
theorem ww_mark1 {post : Int32 → St2 → Prop} {a q : Nat} {x : ww_F} (ha : a < 3) (hq : q < 2) (h1 : a1 a = nI 2) (H : ∀ r : Int32, post r (m, fw, fb, a1, a2, upd a3 (4 * a + q) (ww_z x), a4, a5, a6, a7, a8, a9, a10, a11, a12, a13)) : wpX_mark post (m, fw, fb, a1, a2, a3, a4, a5, a6, a7, a8, a9, a10, a11, a12, a13) (nI a) (nI q) 1 (ww_z x) := by
  have e1 : a1 (nI a).toNatClampNeg = nI 2 := by rw [nI_clamp (by omega), h1]
  unfold wpX_mark
  refine ww_good ha (br_f (by decide) (br_f (nI_pos (by omega)) ⟨pk_in a 3 ha, pk_lt q 2 (fun _ => nm_r (ww_i4 a q) (br_f (by decide) ⟨pk_in (4 * a + q) 12 (by omega), ?_⟩)) (fun z => absurd z (by omega)) rfl e1⟩))
  refine br_f (by decide) (ww_modu ⟨pk_in (4 * a + q) 12 (by omega), nm_r (e' := upd a3 (4 * a + q) (ww_z x)) (by rw [nI_clamp (by omega)]) (H _)⟩)
theorem ww_stepX {post : Int32 → St2 → Prop} {a k : Nat} {x : ww_F} (ha : a < 3) (hk : k < 32) (hp : k / 4 % 4 < 2) (hq : k % 4 < 2) (h1 : a1 a = nI 2) (H : ∀ r : Int32, post r (m, fw, fb, a1, a2, a3, upd a4 (32 * a + k) (ww_z x), a5, a6, a7, a8, a9, a10, a11, a12, a13)) : wpX_step post (m, fw, fb, a1, a2, a3, a4, a5, a6, a7, a8, a9, a10, a11, a12, a13) (nI a) (nI k) (ww_z x) := by
  have e1 : a1 (nI a).toNatClampNeg = nI 2 := by rw [nI_clamp (by omega), h1]
  have ep : (nI k >>> ((2 : Int32) &&& 31)) &&& 3 = nI (k / 4 % 4) := by rw [ww_sh2 (by omega), ww_an3 (by omega)]
  unfold wpX_step
  refine ww_good ha (br_f (by decide) (nm_r ep (nm_r (ww_an3 (by omega)) (br_f (nI_pos (by omega)) (pk_lt 31 k (fun z => absurd z (by omega)) (fun _ => ⟨pk_in a 3 ha, pk_le 2 (k / 4 % 4) (fun z => absurd z (by omega)) (fun _ => ⟨pk_in a 3 ha, pk_lt (k % 4) 2 (fun _ => ⟨pk_in (32 * a + k) 96 (by omega) (ww_i32 a k), nm_e (ww_modu ⟨pk_in (32 * a + k) 96 (by omega) (ww_i32 a k), nm_r (e' := upd a4 (32 * a + k) (ww_z x)) (by rw [ww_i32, nI_clamp (by omega)]) (H _)⟩)⟩) (fun z => absurd z (by omega)) rfl e1⟩) e1⟩))))))
end
theorem ww_rt : ∀ i, i < 8 → ((16 * (nI i >>> ((2 : Int32) &&& 31))) + (4 * ((nI i >>> ((1 : Int32) &&& 31)) &&& 1))) + (nI i &&& 1) = nI (16 * (i / 4) + 4 * (i / 2 % 2) + i % 2) := by decide +kernel
section
variable {a1 a2 a3 a4 a5 a6 a7 a8 a9 a10 a11 a12 a13 : Nat → Int32}
variable {m fw fb : Int32}
theorem ww_load {post : St2 → Prop} {a : Nat} {cc : Int32} (ha : a < 3) (H : ∀ g1 g2 g3 g4 : Nat → Int32, ww_off a a1 a2 a3 a4 g1 g2 g3 g4 → ww_M g1 g2 g3 g4 a (ww_p cc) → post (m, fw, fb, g1, g2, g3, g4, a5, a6, a7, a8, a9, a10, a11, a12, a13)) : wpL_load post (m, fw, fb, a1, a2, a3, a4, a5, a6, a7, a8, a9, a10, a11, a12, a13) (nI a) cc := by
  unfold wpL_load
  refine ww_size (s := 2) ha (by omega) (by omega) (fun r g1 g2 g3 g4 h1 ho => ?_)
  refine pk_loop (σ := (Nat → Int32) × (Nat → Int32)) (fun n q t => wL_load_9 post (nI a) cc n (nI q) m fw fb g1 t.1 t.2 g4 a5 a6 a7 a8 a9 a10 a11 a12 a13) (fun q t => (∀ j, j < 4 * a ∨ 4 * a + 4 ≤ j → t.1 j = a2 j) ∧ (∀ j, j < 4 * a ∨ 4 * a + 4 ≤ j → t.2 j = a3 j) ∧ (∀ r, r < q → t.1 (4 * a + r) = ww_z (ww_p cc r)) ∧ (∀ r, r < q → t.2 (4 * a + r) = ww_z (ww_p cc (2 + r)))) 2 0 (g2, g3) (by omega) ⟨ho.2.1, ho.2.2.1, fun r hr => absurd hr (by omega), fun r hr => absurd hr (by omega)⟩ (fun n t h => ?_) (fun n q t hq h hw => ?_)
  · refine pk_le 2 2 (fun _ => ?_) (fun z => absurd z (by omega))
    refine pk_loop (fun n i g => wL_load_58 post (nI a) cc n (nI i) m fw fb g1 t.1 t.2 g a5 a6 a7 a8 a9 a10 a11 a12 a13) (fun i g => (∀ j, j < 32 * a ∨ 32 * a + 32 ≤ j → g j = a4 j) ∧ ∀ j, j < i → g (32 * a + (16 * (j / 4) + 4 * (j / 2 % 2) + j % 2)) = ww_z (ww_p cc (4 + j))) 8 0 g4 (by omega) ⟨ho.2.2.2, fun r hr => absurd hr (by omega)⟩ (fun n g hg => ?_) (fun n i g hi hg hw => ?_)
    · refine pk_le 8 8 (fun _ => H g1 t.1 t.2 g ⟨ho.1, h.1, h.2.1, hg.1⟩ ⟨h1, h.2.2.1, h.2.2.2, fun c p q hc hp hq => ?_⟩) (fun z => absurd z (by omega))
      have := hg.2 (4 * c + 2 * p + q) (by omega)
      rw [show 32 * a + (16 * ((4 * c + 2 * p + q) / 4) + 4 * ((4 * c + 2 * p + q) / 2 % 2) + (4 * c + 2 * p + q) % 2) = 32 * a + 16 * c + 4 * p + q by omega, show 4 + (4 * c + 2 * p + q) = 4 + 4 * c + 2 * p + q by omega] at this
      exact this
    · refine pk_le 8 i (fun z => absurd z (by omega)) (fun _ => ww_partx (4 + i) (by rw [show (4 : Int32) = nI 4 from rfl, nI_add]) ?_)
      rw [ww_rt i hi]
      refine ww_stepX ha (by omega) (by omega) (by omega) h1 (fun r => nm_r (nI_1 i) (hw _ ⟨fun j hj => ?_, fun j hj => ?_⟩))
      · rw [pk_un (by omega)]
        exact hg.1 j hj
      · by_cases e : j = i
        · rw [e, pk_us]
        · rw [pk_un (by omega)]
          exact hg.2 j (by omega)
  · refine pk_le 2 q (fun z => absurd z (by omega)) (fun _ => ww_partx q rfl (ww_partx (2 + q) (by rw [show (2 : Int32) = nI 2 from rfl, nI_add]) (ww_mark0 ha hq h1 (fun r => ww_mark1 ha hq h1 (fun r' => nm_r (nI_1 q) (hw (upd t.1 (4 * a + q) (ww_z (ww_p cc q)), upd t.2 (4 * a + q) (ww_z (ww_p cc (2 + q)))) ⟨fun j hj => ?_, fun j hj => ?_, fun r hr => ?_, fun r hr => ?_⟩))))))
    · show upd t.1 (4 * a + q) _ j = a2 j
      rw [pk_un (by omega)]
      exact h.1 j hj
    · show upd t.2 (4 * a + q) _ j = a3 j
      rw [pk_un (by omega)]
      exact h.2.1 j hj
    · show upd t.1 (4 * a + q) _ (4 * a + r) = _
      by_cases e : r = q
      · rw [e, pk_us]
      · rw [pk_un (by omega)]
        exact h.2.2.1 r (by omega)
    · show upd t.2 (4 * a + q) _ (4 * a + r) = _
      by_cases e : r = q
      · rw [e, pk_us]
      · rw [pk_un (by omega)]
        exact h.2.2.2 r (by omega)
end
end
section
/-- the numbers of the mirrored automaton -/
def ww_mr (P : Nat → ww_F) (i : Nat) : ww_F := if i < 2 then P (1 - i) else if i < 4 then P (5 - i) else if i < 8 then P (11 - i) else P (19 - i)
theorem ww_mr_st (P : Nat → ww_F) {c p q : Nat} (hc : c < 2) (hp : p < 2) (hq : q < 2) : ww_mr P (4 + 4 * c + 2 * p + q) = P (4 + 4 * c + 2 * (1 - p) + (1 - q)) := by
  unfold ww_mr
  rw [if_neg (by omega), if_neg (by omega)]
  by_cases e : c = 0
  · rw [if_pos (by omega), show 11 - (4 + 4 * c + 2 * p + q) = 4 + 4 * c + 2 * (1 - p) + (1 - q) by omega]
  · rw [if_neg (by omega), show 19 - (4 + 4 * c + 2 * p + q) = 4 + 4 * c + 2 * (1 - p) + (1 - q) by omega]
theorem ww_mr_r (P : Nat → ww_F) : ∀ b n, n ≤ b → 1 ≤ n → ww_r (ww_mr P) n 0 = ww_r P n 1 ∧ ww_r (ww_mr P) n 1 = ww_r P n 0 := by
  intro b
  induction b with
  | zero => intro n h1 h2; omega
  | succ b ih =>
    intro n h1 h2
    by_cases e : n = 1
    · rw [e, ww_r_1, ww_r_1, ww_r_1, ww_r_1]
      exact ⟨rfl, rfl⟩
    · obtain ⟨i0, i1⟩ := ih (n / 2) (by omega) (by omega)
      have en : n = 2 * (n / 2) + n % 2 := by omega
      have hc : n % 2 < 2 := by omega
      have m00 := ww_mr_st P hc (show 0 < 2 by omega) (show 0 < 2 by omega)
      have m01 := ww_mr_st P hc (show 0 < 2 by omega) (show 1 < 2 by omega)
      have m10 := ww_mr_st P hc (show 1 < 2 by omega) (show 0 < 2 by omega)
      have m11 := ww_mr_st P hc (show 1 < 2 by omega) (show 1 < 2 by omega)
      simp only [Nat.mul_zero, Nat.add_zero, Nat.mul_one, Nat.sub_zero, Nat.sub_self] at m00 m01 m10 m11
      have r0 := ww_r_s (ww_mr P) (show 1 ≤ n / 2 by omega) hc 0
      have r1 := ww_r_s (ww_mr P) (show 1 ≤ n / 2 by omega) hc 1
      have s0 := ww_r_s P (show 1 ≤ n / 2 by omega) hc 0
      have s1 := ww_r_s P (show 1 ≤ n / 2 by omega) hc 1
      simp only [Nat.add_zero] at r0 r1 s0 s1
      rw [← en] at r0 r1 s0 s1
      rw [r0, r1, s0, s1, i0, i1, m00, m01, m10, m11]
      generalize ww_r P (n / 2) 0 = x0
      generalize ww_r P (n / 2) 1 = x1
      generalize P (4 + 4 * (n % 2)) = p0
      generalize P (4 + 4 * (n % 2) + 1) = p1
      generalize P (4 + 4 * (n % 2) + 2) = p2
      generalize P (4 + 4 * (n % 2) + 2 + 1) = p3
      constructor <;> grind
theorem ww_mr_w (P : Nat → ww_F) {n : Nat} (hn : 1 ≤ n) : ww_w (ww_mr P) n = ww_w P n := by
  obtain ⟨i0, i1⟩ := ww_mr_r P n n (Nat.le_refl n) hn
  unfold ww_w
  rw [i0, i1, show ww_mr P 2 = P 3 from rfl, show ww_mr P 3 = P 2 from rfl]
  generalize ww_r P n 0 = x0
  generalize ww_r P n 1 = x1
  generalize P 2 = p2
  generalize P 3 = p3
  grind
/-- the numbers of the automaton scaled by 0 -/
def ww_sc (P : Nat → ww_F) (i : Nat) : ww_F := if i < 2 then 0 else P i
theorem ww_sc_r (P : Nat → ww_F) : ∀ b n, n ≤ b → 1 ≤ n → ww_r (ww_sc P) n 0 = 0 ∧ ww_r (ww_sc P) n 1 = 0 := by
  intro b
  induction b with
  | zero => intro n h1 h2; omega
  | succ b ih =>
    intro n h1 h2
    by_cases e : n = 1
    · rw [e, ww_r_1, ww_r_1]
      exact ⟨rfl, rfl⟩
    · obtain ⟨i0, i1⟩ := ih (n / 2) (by omega) (by omega)
      have en : n = 2 * (n / 2) + n % 2 := by omega
      have hc : n % 2 < 2 := by omega
      have r0 := ww_r_s (ww_sc P) (show 1 ≤ n / 2 by omega) hc 0
      have r1 := ww_r_s (ww_sc P) (show 1 ≤ n / 2 by omega) hc 1
      rw [← en] at r0 r1
      rw [r0, r1, i0, i1, Fin.zero_mul, Fin.zero_mul, Fin.zero_mul, Fin.zero_mul]
      exact ⟨rfl, rfl⟩
theorem ww_sc_w (P : Nat → ww_F) {n : Nat} (hn : 1 ≤ n) : ww_w (ww_sc P) n = 0 := by
  obtain ⟨i0, i1⟩ := ww_sc_r P n n (Nat.le_refl n) hn
  unfold ww_w
  rw [i0, i1, Fin.zero_mul, Fin.zero_mul]
  rfl
theorem ww_imi (a c p q : Nat) (hp : p ≤ 1) (hq : q ≤ 1) : ((((32 * nI a) + (16 * nI c)) + (4 * (nI 1 - nI p))) + nI 1) - nI q = nI (32 * a + 16 * c + 4 * (1 - p) + (1 - q)) := by
  rw [show (32 : Int32) = nI 32 from rfl, show (16 : Int32) = nI 16 from rfl, show (4 : Int32) = nI 4 from rfl, pk_sub hp, pk_mul, pk_mul, pk_mul, nI_add, nI_add, nI_add, pk_sub (by omega)]
  congr 1
  omega
theorem ww_im4 (a q : Nat) (hq : q ≤ 1) : ((4 * nI a) + nI 1) - nI q = nI (4 * a + (1 - q)) := by
  rw [ww_i4, pk_sub (by omega)]
  congr 1
  omega
theorem ww_sh4 {k : Nat} (hk : k < 2 ^ 31) : nI k >>> ((4 : Int32) &&& 31) = nI (k / 16) := pk_shrN hk _ 4 (by decide)
section
variable {a1 a2 a3 a4 a5 a6 a7 a8 a9 a10 a11 a12 a13 : Nat → Int32}
variable {m fw fb : Int32}
theorem ww_mi111 {post : Int32 → St2 → Prop} {a b : Nat} {P : Nat → ww_F} (ha : a < 3) (hb : b < 3) (hab : a ≠ b) (h4 : ∀ c p q, c < 2 → p < 2 → q < 2 → a4 (32 * b + 16 * c + 4 * p + q) = ww_z (P (4 + 4 * c + 2 * p + q)))
    (H : ∀ g : Nat → Int32, (∀ j, j < 32 * a ∨ 32 * a + 32 ≤ j → g j = a4 j) → (∀ c p q, c < 2 → p < 2 → q < 2 → g (32 * a + 16 * c + 4 * (1 - p) + (1 - q)) = ww_z (P (4 + 4 * c + 2 * p + q))) → post 0 (m, fw, fb, a1, a2, a3, g, a5, a6, a7, a8, a9, a10, a11, a12, a13)) :
    ∃ n, wX_mirror_111 post (nI a) (nI b) (nI 1) m fw fb n 0 a1 a2 a3 a4 a5 a6 a7 a8 a9 a10 a11 a12 a13 := by
  refine pk_loop (fun n k s => wX_mirror_111 post (nI a) (nI b) (nI 1) m fw fb n (nI k) a1 a2 a3 s a5 a6 a7 a8 a9 a10 a11 a12 a13) (fun k s => (∀ j, j < 32 * a ∨ 32 * a + 32 ≤ j → s j = a4 j) ∧ ∀ c p q, c < 2 → p < 2 → q < 2 → 16 * c + 4 * p + q < k → s (32 * a + 16 * c + 4 * (1 - p) + (1 - q)) = ww_z (P (4 + 4 * c + 2 * p + q))) 32 0 a4 (by omega) ⟨fun _ _ => rfl, fun c p q _ _ _ hk => absurd hk (by omega)⟩ (fun n s h => ?_) (fun n k s hk h hw => ?_)
  · exact pk_le 32 32 (fun _ => H s h.1 (fun c p q hc hp hq => h.2 c p q hc hp hq (by omega))) (fun z => absurd z (by omega))
  · have ep : (nI k >>> ((2 : Int32) &&& 31)) &&& 3 = nI (k / 4 % 4) := by rw [ww_sh2 (by omega), ww_an3 (by omega)]
    refine pk_le 32 k (fun z => absurd z (by omega)) (fun _ => nm_r ep (nm_r (ww_an3 (by omega)) (pk_lt 1 (k / 4 % 4) (fun z => nm_r (nI_1 k) (hw s ⟨h.1, fun c p q hc hp hq hl => h.2 c p q hc hp hq (by omega)⟩)) (fun z => pk_lt 1 (k % 4) (fun z2 => nm_r (nI_1 k) (hw s ⟨h.1, fun c p q hc hp hq hl => h.2 c p q hc hp hq (by omega)⟩)) (fun z2 => ?_)))))
    have ix : ((((32 * nI a) + (16 * (nI k >>> ((4 : Int32) &&& 31)))) + (4 * (nI 1 - nI (k / 4 % 4)))) + nI 1) - nI (k % 4) = nI (32 * a + 16 * (k / 16) + 4 * (1 - k / 4 % 4) + (1 - k % 4)) := by rw [ww_sh4 (by omega)]; exact ww_imi a (k / 16) (k / 4 % 4) (k % 4) z z2
    have hs : s (32 * b + k) = ww_z (P (4 + 4 * (k / 16) + 2 * (k / 4 % 4) + k % 4)) := by
      rw [h.1 _ (by omega), show 32 * b + k = 32 * b + 16 * (k / 16) + 4 * (k / 4 % 4) + k % 4 by omega]
      exact h4 _ _ _ (by omega) (by omega) (by omega)
    refine ⟨pk_in (32 * b + k) 96 (by omega) (ww_i32 b k), pk_in (32 * a + 16 * (k / 16) + 4 * (1 - k / 4 % 4) + (1 - k % 4)) 96 (by omega) ix, nm_r (e' := upd s (32 * a + 16 * (k / 16) + 4 * (1 - k / 4 % 4) + (1 - k % 4)) (ww_z (P (4 + 4 * (k / 16) + 2 * (k / 4 % 4) + k % 4)))) ?_ (nm_r (nI_1 k) (hw _ ⟨fun j hj => ?_, fun c p q hc hp hq hl => ?_⟩))⟩
    · rw [ix, ww_i32, nI_clamp (show 32 * b + k < 2 ^ 31 by omega), nI_clamp (show 32 * a + 16 * (k / 16) + 4 * (1 - k / 4 % 4) + (1 - k % 4) < 2 ^ 31 by omega), hs]
    · rw [pk_un (by omega)]
      exact h.1 j hj
    · by_cases e : 16 * c + 4 * p + q = k
      · have e1 : k / 16 = c := by omega
        have e2 : k / 4 % 4 = p := by omega
        have e3 : k % 4 = q := by omega
        rw [e1, e2, e3, pk_us]
      · have hne : 32 * a + 16 * c + 4 * (1 - p) + (1 - q) ≠ 32 * a + 16 * (k / 16) + 4 * (1 - k / 4 % 4) + (1 - k % 4) := by omega
        rw [pk_un hne]
        exact h.2 c p q hc hp hq (by omega)
theorem ww_mirrorX {post : Int32 → St2 → Prop} {a b : Nat} {P : Nat → ww_F} (ha : a < 3) (hb : b < 3) (hab : a ≠ b) (hM : ww_M a1 a2 a3 a4 b P)
    (H : ∀ g1 g2 g3 g4 : Nat → Int32, ww_off a a1 a2 a3 a4 g1 g2 g3 g4 → ww_M g1 g2 g3 g4 a (ww_mr P) → post 0 (m, fw, fb, g1, g2, g3, g4, a5, a6, a7, a8, a9, a10, a11, a12, a13)) : wpX_mirror post (m, fw, fb, a1, a2, a3, a4, a5, a6, a7, a8, a9, a10, a11, a12, a13) (nI a) (nI b) := by
  have e1 : a1 (nI b).toNatClampNeg = nI 2 := by rw [nI_clamp (by omega), hM.1]
  unfold wpX_mirror
  refine ww_good ha (br_f (by decide) (ww_good hb (br_f (by decide) (pk_eq a b (fun z => absurd z hab) (fun _ => ⟨pk_in b 3 hb, nm_r (e' := nI 1) (by rw [e1]; rfl) ⟨pk_in b 3 hb, ?_⟩⟩)))))
  rw [e1]
  refine ww_size (s := 2) ha (by omega) (by omega) (fun r g1 g2 g3 g4 h1 ho => ?_)
  have hMb := ww_M_off ho (fun z => hab z.symm) hM
  refine pk_loop (σ := (Nat → Int32) × (Nat → Int32)) (fun n q t => wX_mirror_48 post (nI a) (nI b) (nI 1) m fw fb n (nI q) g1 t.1 t.2 g4 a5 a6 a7 a8 a9 a10 a11 a12 a13) (fun q t => (∀ j, j < 4 * a ∨ 4 * a + 4 ≤ j → t.1 j = a2 j) ∧ (∀ j, j < 4 * a ∨ 4 * a + 4 ≤ j → t.2 j = a3 j) ∧ (∀ r, r < q → t.1 (4 * a + (1 - r)) = ww_z (P r)) ∧ (∀ r, r < q → t.2 (4 * a + (1 - r)) = ww_z (P (2 + r)))) 2 0 (g2, g3) (by omega) ⟨ho.2.1, ho.2.2.1, fun r hr => absurd hr (by omega), fun r hr => absurd hr (by omega)⟩ (fun n t h => ?_) (fun n q t hq h hw => ?_)
  · refine pk_lt 1 2 (fun _ => ww_mi111 ha hb hab hMb.2.2.2 (fun g hg1 hg2 => H g1 t.1 t.2 g ⟨ho.1, h.1, h.2.1, fun j hj => (hg1 j hj).trans (ho.2.2.2 j hj)⟩ ⟨h1, fun q hq => ?_, fun q hq => ?_, fun c p q hc hp hq => ?_⟩)) (fun z => absurd z (by omega))
    · have := h.2.2.1 (1 - q) (by omega)
      rw [show 1 - (1 - q) = q by omega] at this
      rw [this]
      unfold ww_mr
      rw [if_pos hq]
    · have := h.2.2.2 (1 - q) (by omega)
      rw [show 1 - (1 - q) = q by omega] at this
      rw [this]
      unfold ww_mr
      rw [if_neg (by omega), if_pos (by omega), show 5 - (2 + q) = 2 + (1 - q) by omega]
    · have := hg2 c (1 - p) (1 - q) hc (by omega) (by omega)
      rw [show 1 - (1 - p) = p by omega, show 1 - (1 - q) = q by omega] at this
      rw [this, ww_mr_st P hc hp hq]
  · have ix := ww_im4 a q (by omega)
    have v2 : t.1 (4 * b + q) = ww_z (P q) := by rw [h.1 _ (by omega)]; exact hM.2.1 q hq
    have v3 : t.2 (4 * b + q) = ww_z (P (2 + q)) := by rw [h.2.1 _ (by omega)]; exact hM.2.2.1 q hq
    refine pk_lt 1 q (fun z => absurd z (by omega)) (fun _ => ⟨pk_in (4 * b + q) 12 (by omega) (ww_i4 b q), pk_in (4 * a + (1 - q)) 12 (by omega) ix, nm_r (e' := upd t.1 (4 * a + (1 - q)) (ww_z (P q))) ?_ ⟨pk_in (4 * b + q) 12 (by omega) (ww_i4 b q), pk_in (4 * a + (1 - q)) 12 (by omega) ix, nm_r (e' := upd t.2 (4 * a + (1 - q)) (ww_z (P (2 + q)))) ?_ (nm_r (nI_1 q) (hw (upd t.1 (4 * a + (1 - q)) (ww_z (P q)), upd t.2 (4 * a + (1 - q)) (ww_z (P (2 + q)))) ⟨fun j hj => ?_, fun j hj => ?_, fun r hr => ?_, fun r hr => ?_⟩))⟩⟩)
    · rw [ix, ww_i4, nI_clamp (show 4 * a + (1 - q) < 2 ^ 31 by omega), nI_clamp (show 4 * b + q < 2 ^ 31 by omega), v2]
    · rw [ix, ww_i4, nI_clamp (show 4 * a + (1 - q) < 2 ^ 31 by omega), nI_clamp (show 4 * b + q < 2 ^ 31 by omega), v3]
    · show upd t.1 (4 * a + (1 - q)) _ j = a2 j
      rw [pk_un (by omega)]
      exact h.1 j hj
    · show upd t.2 (4 * a + (1 - q)) _ j = a3 j
      rw [pk_un (by omega)]
      exact h.2.1 j hj
    · show upd t.1 (4 * a + (1 - q)) _ (4 * a + (1 - r)) = _
      by_cases e : r = q
      · rw [e, pk_us]
      · rw [pk_un (by omega)]
        exact h.2.2.1 r (by omega)
    · show upd t.2 (4 * a + (1 - q)) _ (4 * a + (1 - r)) = _
      by_cases e : r = q
      · rw [e, pk_us]
      · rw [pk_un (by omega)]
        exact h.2.2.2 r (by omega)
theorem ww_scaleX {post : Int32 → St2 → Prop} {a b : Nat} {P : Nat → ww_F} (ha : a < 3) (hb : b < 3) (hab : a ≠ b) (hM : ww_M a1 a2 a3 a4 b P)
    (H : ∀ g1 g2 g3 g4 : Nat → Int32, ww_off a a1 a2 a3 a4 g1 g2 g3 g4 → ww_M g1 g2 g3 g4 a (ww_sc P) → post 0 (m, fw, fb, g1, g2, g3, g4, a5, a6, a7, a8, a9, a10, a11, a12, a13)) : wpX_scale post (m, fw, fb, a1, a2, a3, a4, a5, a6, a7, a8, a9, a10, a11, a12, a13) (nI a) (nI b) 0 := by
  have e1 : a1 (nI b).toNatClampNeg = nI 2 := by rw [nI_clamp (by omega), hM.1]
  unfold wpX_scale
  refine ww_good ha (br_f (by decide) (ww_good hb (br_f (by decide) (ww_modu (x := 0) ⟨pk_in b 3 hb, pk_in a 3 ha, nm_r (e' := upd a1 a (nI 2)) (by rw [e1, nI_clamp (by omega)]) ?_⟩))))
  refine pk_loop (σ := (Nat → Int32) × (Nat → Int32)) (fun n q t => wX_scale_37 post (nI a) (nI b) (ww_z 0) m fw fb n (nI q) (upd a1 a (nI 2)) t.1 t.2 a4 a5 a6 a7 a8 a9 a10 a11 a12 a13) (fun q t => (∀ j, j < 4 * a ∨ 4 * a + 4 ≤ j → t.1 j = a2 j) ∧ (∀ j, j < 4 * a ∨ 4 * a + 4 ≤ j → t.2 j = a3 j) ∧ (∀ r, r < q → t.1 (4 * a + r) = ww_z 0) ∧ (∀ r, r < q → t.2 (4 * a + r) = a3 (4 * b + r))) 4 0 (a2, a3) (by omega) ⟨fun _ _ => rfl, fun _ _ => rfl, fun r hr => absurd hr (by omega), fun r hr => absurd hr (by omega)⟩ (fun n t h => ?_) (fun n q t hq h hw => ?_)
  · refine pk_le 4 4 (fun _ => ?_) (fun z => absurd z (by omega))
    refine pk_loop (fun n k g => wX_scale_103 post (nI a) (nI b) m fw fb n (nI k) (upd a1 a (nI 2)) t.1 t.2 g a5 a6 a7 a8 a9 a10 a11 a12 a13) (fun k g => (∀ j, j < 32 * a ∨ 32 * a + 32 ≤ j → g j = a4 j) ∧ ∀ r, r < k → g (32 * a + r) = a4 (32 * b + r)) 32 0 a4 (by omega) ⟨fun _ _ => rfl, fun r hr => absurd hr (by omega)⟩ (fun n g hg => ?_) (fun n k g hk hg hw => ?_)
    · refine pk_le 32 32 (fun _ => H _ _ _ _ ⟨fun k hk => pk_un hk, h.1, h.2.1, hg.1⟩ ⟨pk_us, fun q hq => ?_, fun q hq => ?_, fun c p q hc hp hq => ?_⟩) (fun z => absurd z (by omega))
      · rw [h.2.2.1 q (by omega)]
        unfold ww_sc
        rw [if_pos hq]
      · rw [h.2.2.2 q (by omega), hM.2.2.1 q hq]
        unfold ww_sc
        rw [if_neg (by omega)]
      · have := hg.2 (16 * c + 4 * p + q) (by omega)
        rw [show 32 * a + (16 * c + 4 * p + q) = 32 * a + 16 * c + 4 * p + q by omega, show 32 * b + (16 * c + 4 * p + q) = 32 * b + 16 * c + 4 * p + q by omega] at this
        rw [this, hM.2.2.2 c p q hc hp hq]
        unfold ww_sc
        rw [if_neg (by omega)]
    · refine pk_le 32 k (fun z => absurd z (by omega)) (fun _ => ⟨pk_in (32 * b + k) 96 (by omega) (ww_i32 b k), pk_in (32 * a + k) 96 (by omega) (ww_i32 a k), nm_r (e' := upd g (32 * a + k) (a4 (32 * b + k))) ?_ (nm_r (nI_1 k) (hw _ ⟨fun j hj => ?_, fun r hr => ?_⟩))⟩)
      · rw [ww_i32, ww_i32, nI_clamp (show 32 * a + k < 2 ^ 31 by omega), nI_clamp (show 32 * b + k < 2 ^ 31 by omega), hg.1 _ (by omega)]
      · rw [pk_un (by omega)]
        exact hg.1 j hj
      · by_cases e : r = k
        · rw [e, pk_us]
        · rw [pk_un (by omega)]
          exact hg.2 r (by omega)
  · refine pk_le 4 q (fun z => absurd z (by omega)) (fun _ => ⟨pk_in (4 * b + q) 12 (by omega) (ww_i4 b q), by decide, pk_in (4 * a + q) 12 (by omega) (ww_i4 a q), nm_r (e' := upd t.1 (4 * a + q) (ww_z 0)) ?_ ⟨pk_in (4 * b + q) 12 (by omega) (ww_i4 b q), pk_in (4 * a + q) 12 (by omega) (ww_i4 a q), nm_r (e' := upd t.2 (4 * a + q) (a3 (4 * b + q))) ?_ (nm_r (nI_1 q) (hw (upd t.1 (4 * a + q) (ww_z 0), upd t.2 (4 * a + q) (a3 (4 * b + q))) ⟨fun j hj => ?_, fun j hj => ?_, fun r hr => ?_, fun r hr => ?_⟩))⟩⟩)
    · rw [ww_i4, nI_clamp (show 4 * a + q < 2 ^ 31 by omega), ww_mul0]
    · rw [ww_i4, ww_i4, nI_clamp (show 4 * a + q < 2 ^ 31 by omega), nI_clamp (show 4 * b + q < 2 ^ 31 by omega), h.2.1 _ (by omega)]
    · show upd t.1 (4 * a + q) _ j = a2 j
      rw [pk_un (by omega)]
      exact h.1 j hj
    · show upd t.2 (4 * a + q) _ j = a3 j
      rw [pk_un (by omega)]
      exact h.2.1 j hj
    · show upd t.1 (4 * a + q) _ (4 * a + r) = _
      by_cases e : r = q
      · rw [e, pk_us]
      · rw [pk_un (by omega)]
        exact h.2.2.1 r (by omega)
    · show upd t.2 (4 * a + q) _ (4 * a + r) = _
      by_cases e : r = q
      · rw [e, pk_us]
      · rw [pk_un (by omega)]
        exact h.2.2.2 r (by omega)
end
end
section
theorem ww_det (a b c : ww_F) (h : a * b = c * c) : (ww_z a * ww_z b - ww_z c * ww_z c) - (ww_z a * ww_z b - ww_z c * ww_z c) / 997 * 997 = 0 := by
  have h1 := ww_mulb a b
  have h2 := ww_mulb c c
  have e1 : ww_z a * ww_z b = nI (a.val * b.val) := by
    unfold ww_z
    rw [pk_mul]
  have e2 : ww_z c * ww_z c = nI (c.val * c.val) := by
    unfold ww_z
    rw [pk_mul]
  have hv : a.val * b.val % 997 = c.val * c.val % 997 := by
    have := congrArg Fin.val h
    rw [Fin.val_mul, Fin.val_mul] at this
    exact this
  rw [e1, e2]
  revert h1 h2 hv
  generalize a.val * b.val = A
  generalize c.val * c.val = B
  intro h1 h2 hv
  by_cases hle : B ≤ A
  · rw [pk_sub hle]
    have e := pk_rem (a := A - B) (d := 997) (by omega) (by decide) (by decide)
    rw [show nI 997 = (997 : Int32) from rfl] at e
    rw [e, show (A - B) % 997 = 0 by omega]
    rfl
  · have ex : nI A - nI B = -nI (B - A) := by
      rw [← pk_sub (show A ≤ B by omega), Int32.neg_sub]
    have ed : (-nI (B - A)) / 997 = -nI ((B - A) / 997) := by
      apply Int32.toInt_inj.mp
      have h997 : (997 : Int32).toInt = 997 := by decide
      rw [Int32.toInt_div, sb_negT (by omega), h997, sb_negT (by omega), Int.neg_tdiv, Int.tdiv_eq_ediv_of_nonneg (by omega), Int.bmod_eq_of_le (by omega) (by omega)]
      omega
    rw [ex, ed, Int32.neg_mul, show (997 : Int32) = nI 997 from rfl, pk_mul, show (B - A) / 997 * 997 = B - A by omega, Int32.sub_self]
/-- the least code below wd, as the law keeps it -/
def ww_fst (f : Nat → ww_F) (wd r : Nat) : Prop := (r = 0 ∧ ∀ n, 1 ≤ n → n < wd → f n = 0) ∨ (1 ≤ r ∧ r < wd ∧ f r ≠ 0 ∧ ∀ n, 1 ≤ n → n < r → f n = 0)
theorem ww_fst_s {f : Nat → ww_F} {wd r : Nat} {x : ww_F} (h : ww_fst f wd r) (hx : 1 ≤ wd → x = f wd) (h0 : wd = 0 → x = 0) : ww_fst f (wd + 1) (if x ≠ 0 ∧ r = 0 then wd else r) := by
  by_cases e : x ≠ 0 ∧ r = 0
  · rw [if_pos e]
    have hw : 1 ≤ wd := by
      rcases Nat.eq_zero_or_pos wd with z | z
      · exact absurd (h0 z) e.1
      · exact z
    rcases h with h | h
    · refine Or.inr ⟨hw, by omega, ?_, h.2⟩
      rw [← hx hw]
      exact e.1
    · have := h.1
      omega
  · rw [if_neg e]
    rcases h with h | h
    · refine Or.inl ⟨h.1, fun n h1 h2 => ?_⟩
      by_cases en : n = wd
      · rw [en, ← hx (by omega)]
        by_cases z : x = 0
        · exact z
        · exact absurd ⟨z, h.1⟩ e
      · exact h.2 n h1 (by omega)
    · exact Or.inr ⟨h.1, by have := h.2.1; omega, h.2.2⟩
theorem ww_fst_eq {f : Nat → ww_F} {r s : Nat} (h : ww_first f r) (h' : ww_fst f 128 s) : r = s := by
  rcases h with h | h
  · rcases h' with h' | h'
    · rw [h.1, h'.1]
    · exact absurd (h.2 s h'.1) h'.2.2.1
  · rcases h' with h' | h'
    · exact absurd (h'.2 r h.1 (by have := h.2.1; omega)) h.2.2.1
    · rcases Nat.lt_trichotomy r s with e | e | e
      · exact absurd (h'.2.2.2 r h.1 e) h.2.2.1
      · exact e
      · exact absurd (h.2.2.2 s h'.1 e) h'.2.2.1
/-- the sum of the weights of the words of two letters, as the law keeps it -/
def ww_tw (f : Nat → ww_F) : Nat → ww_F
  | 0 => 0
  | n + 1 => if 3 < n ∧ n < 8 then ww_tw f n + f n else ww_tw f n
theorem ww_tw_8 (f : Nat → ww_F) : ∀ n, 8 ≤ n → ww_tw f n = f 4 + f 5 + f 6 + f 7 := by
  intro n
  induction n with
  | zero => intro h; omega
  | succ n ih =>
    intro h
    by_cases e : n = 7
    · subst e
      show (((0 + f 4) + f 5) + f 6) + f 7 = _
      rw [Fin.zero_add]
    · show (if 3 < n ∧ n < 8 then ww_tw f n + f n else ww_tw f n) = _
      rw [if_neg (by omega)]
      exact ih (by omega)
def ww_li (P P' : Nat → ww_F) (wd r s : Nat) (t : ww_F) : Prop := t = ww_tw (ww_w P) wd ∧ ww_fst (ww_w P) wd r ∧ ww_fst (fun n => ww_w P n - ww_w P' n) wd s
theorem ww_fst_lt {f : Nat → ww_F} {wd r : Nat} (h : ww_fst f wd r) : r ≤ wd := by
  rcases h with h | h
  · omega
  · have := h.2.1
    omega
theorem ww_li_s {P P' : Nat → ww_F} {wd r s : Nat} {t a b : ww_F} (h : ww_li P P' wd r s t) (h1 : 1 ≤ wd → a = ww_w P wd ∧ b = ww_w P' wd) (h0 : wd = 0 → a = 0 ∧ b = 0) :
    ww_li P P' (wd + 1) (if a ≠ 0 ∧ r = 0 then wd else r) (if a ≠ b ∧ s = 0 then wd else s) (if 3 < wd ∧ wd < 8 then t + a else t) := by
  refine ⟨?_, ww_fst_s h.2.1 (fun z => (h1 z).1) (fun z => (h0 z).1), ?_⟩
  · show _ = (if 3 < wd ∧ wd < 8 then ww_tw (ww_w P) wd + ww_w P wd else ww_tw (ww_w P) wd)
    by_cases e : 3 < wd ∧ wd < 8
    · rw [if_pos e, if_pos e, h.1, (h1 (by omega)).1]
    · rw [if_neg e, if_neg e, h.1]
  · have hh := ww_fst_s (x := a - b) h.2.2 (fun z => by rw [(h1 z).1, (h1 z).2]) (fun z => by rw [(h0 z).1, (h0 z).2]; decide)
    have e : (a - b ≠ 0 ∧ s = 0) = (a ≠ b ∧ s = 0) := by
      have : (a - b ≠ 0) = (a ≠ b) := by
        apply propext
        constructor
        · intro z q
          apply z
          rw [q]
          grind
        · intro z q
          apply z
          grind
      rw [this]
    simp only [e] at hh
    exact hh
section
variable {a1 a2 a3 a4 a5 a6 a7 a8 a9 a10 a11 a12 a13 : Nat → Int32}
variable {m fw fb : Int32}
theorem ww_l151 {post : Int32 → St0 → Prop} {mc ms kc ks : Nat} {J31 J41 : Int32 → Int32 → Int32 → Int32 → Int32 → Int32 → Int32 → (Nat → Int32) → (Nat → Int32) → (Nat → Int32) → (Nat → Int32) → (Nat → Int32) → (Nat → Int32) → (Nat → Int32) → (Nat → Int32) → (Nat → Int32) → (Nat → Int32) → (Nat → Int32) → (Nat → Int32) → (Nat → Int32) → Prop} {x0 x1 x3 x4 x6 : Int32} {wd j : Nat} {t a : ww_F} (hwd : wd < 128)
    (H : J41 x3 x4 (ww_z (if 3 < wd ∧ wd < 8 then t + a else t)) (nI (j + 1)) m fw fb a1 a2 a3 a4 a5 a6 a7 a8 a9 a10 a11 a12 a13) : wL_lawOf_151 post mc ms J31 J41 x0 x1 x3 x4 (ww_z t) x6 (nI j) (nI wd) (ww_z a) kc ks m fw fb a1 a2 a3 a4 a5 a6 a7 a8 a9 a10 a11 a12 a13 := by
  refine pk_le wd 3 (fun z => nm_r (nI_1 j) ?_) (fun z => pk_le 8 wd (fun z2 => nm_r (nI_1 j) ?_) (fun z2 => ⟨by decide, nm_r (ww_add t a) (nm_r (nI_1 j) ?_)⟩))
  · rw [if_neg (by omega)] at H
    exact H
  · rw [if_neg (by omega)] at H
    exact H
  · rw [if_pos (by omega)] at H
    exact H
theorem ww_l135 {post : Int32 → St0 → Prop} {mc ms kc ks : Nat} {J31 J41 : Int32 → Int32 → Int32 → Int32 → Int32 → Int32 → Int32 → (Nat → Int32) → (Nat → Int32) → (Nat → Int32) → (Nat → Int32) → (Nat → Int32) → (Nat → Int32) → (Nat → Int32) → (Nat → Int32) → (Nat → Int32) → (Nat → Int32) → (Nat → Int32) → (Nat → Int32) → (Nat → Int32) → Prop} {x0 x1 x3 x6 : Int32} {s wd j : Nat} {t a b : ww_F} (hwd : wd < 128) (hs : s < 128)
    (H : J41 x3 (nI (if a ≠ b ∧ s = 0 then wd else s)) (ww_z (if 3 < wd ∧ wd < 8 then t + a else t)) (nI (j + 1)) m fw fb a1 a2 a3 a4 a5 a6 a7 a8 a9 a10 a11 a12 a13) : wL_lawOf_135 post mc ms J31 J41 x0 x1 x3 (nI s) (ww_z t) x6 (nI j) (nI wd) (ww_z a) (ww_z b) kc ks m fw fb a1 a2 a3 a4 a5 a6 a7 a8 a9 a10 a11 a12 a13 := by
  refine ek_if (ww_iff a b) (fun e => ww_l151 hwd ?_) (fun e => pk_eq s 0 (fun e2 => ww_l151 hwd ?_) (fun e2 => ww_l151 hwd ?_))
  · rw [if_neg (fun z => z.1 e)] at H
    exact H
  · rw [if_pos ⟨e, e2⟩] at H
    exact H
  · rw [if_neg (fun z => e2 z.2)] at H
    exact H
theorem ww_l123 {post : Int32 → St0 → Prop} {mc ms kc ks : Nat} {J31 J41 : Int32 → Int32 → Int32 → Int32 → Int32 → Int32 → Int32 → (Nat → Int32) → (Nat → Int32) → (Nat → Int32) → (Nat → Int32) → (Nat → Int32) → (Nat → Int32) → (Nat → Int32) → (Nat → Int32) → (Nat → Int32) → (Nat → Int32) → (Nat → Int32) → (Nat → Int32) → (Nat → Int32) → Prop} {x0 x1 x6 : Int32} {r s wd j : Nat} {t a b : ww_F} (hwd : wd < 128) (hr : r < 128) (hs : s < 128)
    (H : J41 (nI (if a ≠ 0 ∧ r = 0 then wd else r)) (nI (if a ≠ b ∧ s = 0 then wd else s)) (ww_z (if 3 < wd ∧ wd < 8 then t + a else t)) (nI (j + 1)) m fw fb a1 a2 a3 a4 a5 a6 a7 a8 a9 a10 a11 a12 a13) : wL_lawOf_123 post mc ms J31 J41 x0 x1 (nI r) (nI s) (ww_z t) x6 (nI j) (nI wd) (ww_z a) (ww_z b) kc ks m fw fb a1 a2 a3 a4 a5 a6 a7 a8 a9 a10 a11 a12 a13 := by
  refine ek_if (ww_iff0 a) (fun e => ww_l135 hwd hs ?_) (fun e => pk_eq r 0 (fun e2 => ww_l135 hwd hs ?_) (fun e2 => ww_l135 hwd hs ?_))
  · rw [if_neg (fun z => z.1 e)] at H
    exact H
  · rw [if_pos ⟨e, e2⟩] at H
    exact H
  · rw [if_neg (fun z => e2 z.2)] at H
    exact H
/-- one word of the law's loop -/
theorem ww_l41s {post : Int32 → St0 → Prop} {mc ms kc ks f : Nat} {J31 : Int32 → Int32 → Int32 → Int32 → Int32 → Int32 → Int32 → (Nat → Int32) → (Nat → Int32) → (Nat → Int32) → (Nat → Int32) → (Nat → Int32) → (Nat → Int32) → (Nat → Int32) → (Nat → Int32) → (Nat → Int32) → (Nat → Int32) → (Nat → Int32) → (Nat → Int32) → (Nat → Int32) → Prop} {x0 x1 : Int32} {i j r s : Nat} {t : ww_F} (hi : i < 16) (hj : j < 8) (hr : r < 128) (hs : s < 128) (hM0 : ww_M a1 a2 a3 a4 0 (ww_p x0)) (hM1 : ww_M a1 a2 a3 a4 1 (ww_p x1)) (h : ww_li (ww_p x0) (ww_p x1) (8 * i + j) r s t)
    (H : ∀ (r' s' : Nat) (t' : ww_F) (m' fw' fb' : Int32) (g5 g6 g11 g12 : Nat → Int32), ww_li (ww_p x0) (ww_p x1) (8 * i + (j + 1)) r' s' t' → wL_lawOf_41 post mc ms J31 x0 x1 (nI i) kc ks f (nI r') (nI s') (ww_z t') (nI (j + 1)) m' fw' fb' a1 a2 a3 a4 g5 g6 a7 a8 a9 a10 g11 g12 a13) :
    wL_lawOf_41 post mc ms J31 x0 x1 (nI i) kc ks (f + 1) (nI r) (nI s) (ww_z t) (nI j) m fw fb a1 a2 a3 a4 a5 a6 a7 a8 a9 a10 a11 a12 a13 := by
  refine pk_le 8 j (fun z => absurd z (by omega)) (fun _ => nm_r (ww_i8 i j) ?_)
  refine pk_le (8 * i + j) 0 (fun z => ?_) (fun z => ww_weightL (by omega) (by omega) ?_)
  · refine pk_le (8 * i + j) 0 (fun _ => ?_) (fun z2 => absurd z2 (by omega))
    refine pk_le (8 * i + j) 0 (fun _ => ?_) (fun z2 => absurd z2 (by omega))
    have hl := ww_li_s (wd := 8 * i + j) (a := 0) (b := 0) h (fun z2 => absurd z2 (by omega)) (fun _ => ⟨rfl, rfl⟩)
    exact ww_l123 (a := 0) (b := 0) (by omega) hr hs (H _ _ _ _ _ _ _ _ _ _ hl)
  · refine pk_le (8 * i + j) 0 (fun z2 => absurd z2 (by omega)) (fun _ => ww_weightL (by omega) (by omega) ?_)
    refine pk_le (8 * i + j) 0 (fun z2 => absurd z2 (by omega)) (fun _ => ?_)
    refine ww_weightX (a := 0) (by omega) hM0 (by omega) (by omega) (fun m' fw' fb' g5 g6 g11 g12 => br_t rfl ?_)
    refine ww_weightX (a := 1) (by omega) hM1 (by omega) (by omega) (fun m' fw' fb' g5 g6 g11 g12 => br_t rfl ?_)
    have hl := ww_li_s (wd := 8 * i + j) (a := ww_w (ww_p x0) (8 * i + j)) (b := ww_w (ww_p x1) (8 * i + j)) h (fun _ => ⟨rfl, rfl⟩) (fun z2 => absurd z2 (by omega))
    exact ww_l123 (by omega) hr hs (H _ _ _ _ _ _ _ _ _ _ hl)
theorem ww_l41 {post : Int32 → St0 → Prop} {mc ms kc ks : Nat} {J31 : Int32 → Int32 → Int32 → Int32 → Int32 → Int32 → Int32 → (Nat → Int32) → (Nat → Int32) → (Nat → Int32) → (Nat → Int32) → (Nat → Int32) → (Nat → Int32) → (Nat → Int32) → (Nat → Int32) → (Nat → Int32) → (Nat → Int32) → (Nat → Int32) → (Nat → Int32) → (Nat → Int32) → Prop} {x0 x1 : Int32} {i : Nat} (hi : i < 16) (hM0 : ww_M a1 a2 a3 a4 0 (ww_p x0)) (hM1 : ww_M a1 a2 a3 a4 1 (ww_p x1))
    (H : ∀ (r s : Nat) (t : ww_F) (m fw fb : Int32) (a5 a6 a11 a12 : Nat → Int32), ww_li (ww_p x0) (ww_p x1) (8 * (i + 1)) r s t → J31 (nI r) (nI s) (ww_z t) (nI (i + 1)) m fw fb a1 a2 a3 a4 a5 a6 a7 a8 a9 a10 a11 a12 a13) :
    ∀ (f j r s : Nat) (t : ww_F) (m fw fb : Int32) (a5 a6 a11 a12 : Nat → Int32), ww_li (ww_p x0) (ww_p x1) (8 * i + j) r s t → j ≤ 8 → 8 - j < f → wL_lawOf_41 post mc ms J31 x0 x1 (nI i) kc ks f (nI r) (nI s) (ww_z t) (nI j) m fw fb a1 a2 a3 a4 a5 a6 a7 a8 a9 a10 a11 a12 a13 := by
  intro f
  induction f with
  | zero => intro j r s t m fw fb a5 a6 a11 a12 _ _ hf; omega
  | succ f ih =>
    intro j r s t m fw fb a5 a6 a11 a12 h hj hf
    by_cases e : j = 8
    · subst e
      exact pk_le 8 8 (fun _ => nm_r (nI_1 i) (H r s t m fw fb a5 a6 a11 a12 h)) (fun z => absurd z (by omega))
    · have hr := ww_fst_lt h.2.1
      have hs := ww_fst_lt h.2.2
      exact ww_l41s hi (by omega) (by omega) (by omega) hM0 hM1 h (fun r' s' t' m' fw' fb' g5 g6 g11 g12 h' => ih (j + 1) r' s' t' m' fw' fb' g5 g6 g11 g12 h' (by omega) (by omega))
end
end
section
section
variable {a1 a2 a3 a4 a5 a6 a7 a8 a9 a10 a11 a12 a13 : Nat → Int32}
variable {m fw fb : Int32}
/-- the mirror, the scaling and the sum -/
theorem ww_l297 {post : Int32 → St0 → Prop} {mc ms kc ks : Nat} {z : Int32} {t : Nat} {P P' : Nat → ww_F} (hp : post 1 ()) (hM0 : ww_M a1 a2 a3 a4 0 P) (hM1 : ww_M a1 a2 a3 a4 1 P') (ht : ww_rk (ww_w P) t) :
    wL_lawOf_297 post mc ms (nI t) z z kc ks m fw fb a1 a2 a3 a4 a5 a6 a7 a8 a9 a10 a11 a12 a13 := by
  refine br_t rfl ?_
  refine ww_mirrorX (a := 2) (b := 0) (by omega) (by omega) (by omega) hM0 (fun g1 g2 g3 g4 ho hM2 => br_t rfl ?_)
  have hM0' := ww_M_off ho (show (0 : Nat) ≠ 2 by omega) hM0
  refine ww_equivX (a := 2) (b := 0) (by omega) (by omega) hM2 hM0' (fun n hn => ww_mr_w P hn) (fun m' fw' fb' g5 g6 g7 g8 g9 g10 g11 g12 => br_t rfl ?_)
  refine ww_rankX (a := 2) (by omega) hM2 (fun t' m' fw' fb' h5 h6 h7 h8 h9 h10 h11 h12 h13 ht' => ?_)
  have et : t' = t := ww_rk_eq ht' ht (fun n hn => ww_mr_w P hn)
  subst et
  refine br_t rfl ?_
  refine ww_scaleX (a := 1) (b := 0) (by omega) (by omega) (by omega) hM0' (fun k1 k2 k3 k4 ho' hM1' => br_t rfl ?_)
  have hM0'' := ww_M_off ho' (show (0 : Nat) ≠ 1 by omega) hM0'
  have hM2'' := ww_M_off ho' (show (2 : Nat) ≠ 1 by omega) hM2
  refine ww_firstX (a := 1) (by omega) hM1' (fun r m' fw' fb' l5 l6 l7 l8 l9 l10 l11 l12 hr => ?_)
  have er : r = 0 := ww_first0 hr (fun n hn => ww_sc_w P hn)
  subst er
  refine br_t rfl ?_
  refine ww_sumX (a := 2) (b := 1) (c := 0) (by omega) (by omega) (by omega) hM2'' hM0'' hM1' (fun n hn => ?_) (fun m' fw' fb' q5 q6 q7 q8 q9 q10 q11 q12 => br_t rfl hp)
  rw [ww_mr_w P hn, ww_sc_w P hn]
  generalize ww_w P n = x
  grind
theorem ww_l278 {post : Int32 → St0 → Prop} {mc ms kc ks : Nat} {r t : Nat} {P P' : Nat → ww_F} (hp : post 1 ()) (hM0 : ww_M a1 a2 a3 a4 0 P) (hM1 : ww_M a1 a2 a3 a4 1 P') (ht : ww_rk (ww_w P) t) (hr : r < 2 ^ 31) (h0 : t = 0 ↔ r = 0) :
    wL_lawOf_278 post mc ms (nI r) (nI t) kc ks m fw fb a1 a2 a3 a4 a5 a6 a7 a8 a9 a10 a11 a12 a13 := by
  have h2 := ht.1
  refine pk_eq t 0 (fun e => ?_) (fun e => ?_)
  · exact pk_eq r 0 (fun _ => ww_l297 hp hM0 hM1 ht) (fun z => absurd (h0.mp e) z)
  · exact pk_eq r 0 (fun z => absurd (h0.mpr z) e) (fun _ => ww_l297 hp hM0 hM1 ht)
/-- behind the loop -/
theorem ww_lend {post : Int32 → St0 → Prop} {mc ms kc ks f : Nat} {x0 x1 : Int32} {r s : Nat} {t : ww_F} (hp : post 1 ()) (hM0 : ww_M a1 a2 a3 a4 0 (ww_p x0)) (hM1 : ww_M a1 a2 a3 a4 1 (ww_p x1)) (h : ww_li (ww_p x0) (ww_p x1) 128 r s t) :
    wL_lawOf_31 post mc ms x0 x1 kc ks (f + 1) (nI r) (nI s) (ww_z t) (nI 16) m fw fb a1 a2 a3 a4 a5 a6 a7 a8 a9 a10 a11 a12 a13 := by
  have hr := ww_fst_lt h.2.1
  refine pk_le 16 16 (fun _ => ?_) (fun z => absurd z (by omega))
  refine ww_firstX (a := 0) (by omega) hM0 (fun r' m' fw' fb' g5 g6 g7 g8 g9 g10 g11 g12 hr' => ?_)
  have er : r' = r := ww_fst_eq hr' h.2.1
  subst er
  refine br_t rfl ?_
  refine ww_diffX (a := 0) (b := 1) (by omega) (by omega) hM0 hM1 (fun s' m' fw' fb' h5 h6 h7 h8 h9 h10 h11 h12 hs' => ?_)
  have es : s' = s := ww_fst_eq hs' h.2.2
  subst es
  refine br_t rfl ?_
  refine ww_totalX (a := 0) (n := 2) (by omega) (by omega) hM0 (fun m' fw' fb' k5 k6 k11 k12 => br_t ?_ ?_)
  · rw [ww_tot2, h.1, ww_tw_8 _ 128 (by omega)]
  · refine ww_weightL (wd := 1) (by omega) (by omega) (ww_weightL (wd := 4) (by omega) (by omega) (ww_weightL (wd := 2) (by omega) (by omega) (ww_weightL (wd := 2) (by omega) (by omega) (nm_e ?_))))
    refine ww_rankX (a := 0) (by omega) hM0 (fun u m' fw' fb' l5 l6 l7 l8 l9 l10 l11 l12 l13 hu => ?_)
    have hu2 := hu.1
    have h0 : u = 0 ↔ r' = 0 := by
      rw [hu.2.1]
      constructor
      · intro z
        rcases hr' with a | a
        · exact a.1
        · exact absurd (z r' a.1) a.2.2.1
      · intro z
        rcases hr' with a | a
        · exact a.2
        · have := a.1
          omega
    have c278 := fun (m' fw' fb' : Int32) (g5 g6 g7 g8 g9 g10 g11 g12 g13 : Nat → Int32) => ww_l278 (post := post) (mc := mc) (ms := ms) (kc := kc) (ks := ks) (m := m') (fw := fw') (fb := fb') (a5 := g5) (a6 := g6) (a7 := g7) (a8 := g8) (a9 := g9) (a10 := g10) (a11 := g11) (a12 := g12) (a13 := g13) hp hM0 hM1 hu (show r' < 2 ^ 31 by omega) h0
    refine br_f (nI_pos (by omega)) (pk_lt 2 u (fun z => absurd z (by omega)) (fun _ => ⟨by decide, br_c (fun _ => c278 _ _ _ _ _ _ _ _ _ _ _ _) (fun hne => pk_eq u 2 (fun _ => c278 _ _ _ _ _ _ _ _ _ _ _ _) (fun e => absurd ?_ hne))⟩))
    exact ww_det _ _ _ (ww_rk_det hu e)
theorem ww_l31 {post : Int32 → St0 → Prop} {mc ms kc ks : Nat} {x0 x1 : Int32} (hp : post 1 ()) (hM0 : ww_M a1 a2 a3 a4 0 (ww_p x0)) (hM1 : ww_M a1 a2 a3 a4 1 (ww_p x1)) :
    ∀ (f i r s : Nat) (t : ww_F) (m fw fb : Int32) (a5 a6 a11 a12 : Nat → Int32), ww_li (ww_p x0) (ww_p x1) (8 * i) r s t → i ≤ 16 → 16 - i < f → wL_lawOf_31 post mc ms x0 x1 kc ks f (nI r) (nI s) (ww_z t) (nI i) m fw fb a1 a2 a3 a4 a5 a6 a7 a8 a9 a10 a11 a12 a13 := by
  intro f
  induction f with
  | zero => intro i r s t m fw fb a5 a6 a11 a12 _ _ hf; omega
  | succ f ih =>
    intro i r s t m fw fb a5 a6 a11 a12 h hi hf
    by_cases e : i = 16
    · subst e
      exact ww_lend hp hM0 hM1 h
    · refine pk_le 16 i (fun z => absurd z (by omega)) (fun _ => ⟨9, ?_⟩)
      exact ww_l41 (by omega) hM0 hM1 (fun r s t m fw fb a5 a6 a11 a12 h' => ih (i + 1) r s t m fw fb a5 a6 a11 a12 h' (by omega) (by omega)) 9 0 r s t m fw fb a5 a6 a11 a12 h (by omega) (by omega)
end
theorem ww_lawOf {post : Int32 → St0 → Prop} {x0 x1 : Int32} (hp : post 1 ()) : wpL_lawOf post 14 581 () x0 x1 := by
  refine ⟨by decide, by decide, 13, 565, by decide, by decide, ?_⟩
  refine ww_init (fun g1 g2 g3 g4 g5 g6 g7 g8 g9 g10 g11 g12 g13 => ?_)
  refine ww_load (a := 0) (by omega) (fun h1 h2 h3 h4 ho hM0 => ?_)
  refine ww_load (a := 1) (by omega) (fun k1 k2 k3 k4 ho' hM1 => ?_)
  refine ⟨17, ww_l31 hp (ww_M_off ho' (show (0 : Nat) ≠ 1 by omega) hM0) hM1 17 0 0 0 0 0 0 0 _ _ _ _ ⟨rfl, Or.inl ⟨rfl, fun n h1 h2 => absurd h2 (by omega)⟩, Or.inl ⟨rfl, fun n h1 h2 => absurd h2 (by omega)⟩⟩ (by omega) (by omega)⟩
theorem ww_cell {post : Int32 → Prop} {L i : Nat} {xs : Nat → Int32} (hL : L ≤ 2) (hi : i < 2) (H : ∀ x, post x) : wpL_cellAt post L xs () (nI i) := pk_le L i (fun _ => H 0) (fun z => ⟨pk_in i L z, H _⟩)
theorem i_vc (xs : Nat → Int32) (L : Nat) (hL : L ≤ 2) : wpL_law (fun r => r = 1) L xs := by
  refine ww_cell (i := 0) hL (by omega) (fun x0 => ?_)
  refine ww_cell (i := 1) hL (by omega) (fun x1 => ?_)
  exact ⟨14, 581, by decide, by decide, ww_lawOf rfl⟩
end

section
/-! part 01: ints and arrays of the program as whole numbers -/
def fs_i (z : Int) : Int32 := Int32.ofInt z
def fs_a (L : Int → Int) : Nat → Int32 := fun j => fs_i (L (j : Int))
def fs_u (L : Int → Int) (k z : Int) : Int → Int := fun j => if j = k then z else L j
theorem fs_us {L : Int → Int} {k z : Int} : fs_u L k z k = z := if_pos rfl
theorem fs_un {L : Int → Int} {k z j : Int} (h : j ≠ k) : fs_u L k z j = L j := if_neg h
theorem fs_ti {z : Int} (h : -2147483648 ≤ z) (h2 : z < 2147483648) : (fs_i z).toInt = z := Int32.toInt_ofInt_of_le h h2
theorem fs_cl {z : Int} (h : 0 ≤ z) (h2 : z < 2147483648) : (fs_i z).toNatClampNeg = z.toNat := by
  unfold fs_i
  exact Int32.toNatClampNeg_ofInt_of_le (by omega) (by omega)
theorem fs_rd {L : Int → Int} {e : Int} (h : 0 ≤ e) (h2 : e < 2147483648) : fs_a L (fs_i e).toNatClampNeg = fs_i (L e) := by
  rw [fs_cl h h2]
  unfold fs_a
  rw [Int.toNat_of_nonneg h]
theorem fs_up {L : Int → Int} {e z : Int} (h : 0 ≤ e) (h2 : e < 2147483648) : upd (fs_a L) (fs_i e).toNatClampNeg (fs_i z) = fs_a (fs_u L e z) := by
  rw [fs_cl h h2]
  funext j
  unfold upd fs_a fs_u
  by_cases c : j = e.toNat
  · rw [if_pos c, if_pos (by omega)]
  · rw [if_neg c, if_neg (by omega)]
theorem fs_uq {L : Int → Int} {e z : Int} {x : Int32} (h : 0 ≤ e) (h2 : e < 2147483648) (hx : x = fs_i z := by rfl) : upd (fs_a L) (fs_i e).toNatClampNeg x = fs_a (fs_u L e z) := by
  rw [hx, fs_up h h2]
theorem fs_in {e : Int} {n : Nat} (h : 0 ≤ e) (h2 : e < n) (hn : (n : Int) < 2147483648 := by decide) : vp_in (fs_i e) n := by
  rw [vp_in_iff, fs_ti (by omega) (by omega)]
  exact ⟨h, h2⟩
theorem fs_all (a : Nat → Int32) : ∃ L, a = fs_a L := ⟨fun j => (a j.toNat).toInt, by
  funext j
  unfold fs_a fs_i
  dsimp only
  rw [Int.toNat_natCast, Int32.ofInt_toInt]⟩
theorem fs_ex (x : Int32) : ∃ z, x = fs_i z := ⟨x.toInt, (Int32.ofInt_toInt x).symm⟩
theorem fs_add (a b : Int) : fs_i a + fs_i b = fs_i (a + b) := (Int32.ofInt_add a b).symm
theorem fs_sub (a b : Int) : fs_i a - fs_i b = fs_i (a - b) := (Int32.ofInt_sub a b).symm
theorem fs_mul (a b : Int) : fs_i a * fs_i b = fs_i (a * b) := (Int32.ofInt_mul a b).symm
theorem fs_p1 (a : Int) : fs_i a + 1 = fs_i (a + 1) := (Int32.ofInt_add a 1).symm
theorem fs_m1 (a : Int) : fs_i a - 1 = fs_i (a - 1) := (Int32.ofInt_sub a 1).symm
theorem fs_m1' (a : Int) : fs_i a + (-1) = fs_i (a - 1) := by
  rw [show (-1 : Int32) = fs_i (-1) by decide, fs_add, Int.sub_eq_add_neg]
theorem fs_nI (n : Nat) : nI n = fs_i n := Int32.ofInt_eq_ofNat.symm
theorem fs_leI {a b : Int} (ha : -2147483648 ≤ a ∧ a < 2147483648) (hb : -2147483648 ≤ b ∧ b < 2147483648) : fs_i a ≤ fs_i b ↔ a ≤ b := by
  rw [Int32.le_iff_toInt_le, fs_ti ha.1 ha.2, fs_ti hb.1 hb.2]
theorem fs_ltI {a b : Int} (ha : -2147483648 ≤ a ∧ a < 2147483648) (hb : -2147483648 ≤ b ∧ b < 2147483648) : fs_i a < fs_i b ↔ a < b := by
  rw [Int32.lt_iff_toInt_lt, fs_ti ha.1 ha.2, fs_ti hb.1 hb.2]
theorem fs_eqI {a b : Int} (ha : -2147483648 ≤ a ∧ a < 2147483648) (hb : -2147483648 ≤ b ∧ b < 2147483648) : fs_i a = fs_i b ↔ a = b := by
  rw [← Int32.toInt_inj, fs_ti ha.1 ha.2, fs_ti hb.1 hb.2]
theorem fs_le {x y : Int32} {A B : Prop} (a b : Int) (f : a ≤ b → A) (g : b < a → B) (hx : x = fs_i a := by rfl) (hy : y = fs_i b := by rfl) (ha : -2147483648 ≤ a ∧ a < 2147483648 := by omega) (hb : -2147483648 ≤ b ∧ b < 2147483648 := by omega) : (x ≤ y → A) ∧ (¬ x ≤ y → B) := by
  subst hx hy
  rw [fs_leI ha hb]
  exact ⟨f, fun z => g (by omega)⟩
theorem fs_lt {x y : Int32} {A B : Prop} (a b : Int) (f : a < b → A) (g : b ≤ a → B) (hx : x = fs_i a := by rfl) (hy : y = fs_i b := by rfl) (ha : -2147483648 ≤ a ∧ a < 2147483648 := by omega) (hb : -2147483648 ≤ b ∧ b < 2147483648 := by omega) : (x < y → A) ∧ (¬ x < y → B) := by
  subst hx hy
  rw [fs_ltI ha hb]
  exact ⟨f, fun z => g (by omega)⟩
theorem fs_eq {x y : Int32} {A B : Prop} (a b : Int) (f : a = b → A) (g : a ≠ b → B) (hx : x = fs_i a := by rfl) (hy : y = fs_i b := by rfl) (ha : -2147483648 ≤ a ∧ a < 2147483648 := by omega) (hb : -2147483648 ≤ b ∧ b < 2147483648 := by omega) : (x = y → A) ∧ (¬ x = y → B) := by
  subst hx hy
  rw [fs_eqI ha hb]
  exact ⟨f, g⟩
theorem fs_b8 {z : Int} (h : -128 ≤ z) (h2 : z < 128) : (fs_i z).toInt8.toInt32 = fs_i z := by
  unfold fs_i
  apply Int32.toInt_inj.mp
  rw [Int32.toInt8_ofInt, Int8.toInt_toInt32, Int8.toInt_ofInt_of_le (by omega) (by omega), Int32.toInt_ofInt_of_le (by omega) (by omega)]
theorem fs_nb {z : Int} (h : -128 ≤ z) (h2 : z < 128) : vp_nar .byte (fs_i z) = fs_i z := by
  rw [vp_nar_byte, fs_b8 h h2]
/-- an edge's partner -/
def fs_x (e : Int) : Int := if e % 2 = 0 then e + 1 else e - 1
theorem fs_xx (e : Int) : fs_x (fs_x e) = e := by
  unfold fs_x
  split <;> split <;> omega
theorem fs_xn (e : Int) : fs_x e ≠ e := by
  unfold fs_x
  split <;> omega
theorem fs_xb {e : Int} (h : 0 ≤ e) : 0 ≤ fs_x e ∧ fs_x e ≤ e + 1 ∧ ∀ k : Int, e < 2 * k → fs_x e < 2 * k := by
  unfold fs_x
  split <;> exact ⟨by omega, by omega, fun k h => by omega⟩
theorem fs_xor {e : Int} (h : 0 ≤ e) (h2 : e < 56) : fs_i e ^^^ 1 = fs_i (fs_x e) := by
  have key : ∀ n : Fin 56, fs_i (n.val : Int) ^^^ 1 = fs_i (fs_x (n.val : Int)) := by decide +kernel
  have := key ⟨e.toNat, by omega⟩
  simp only [Int.toNat_of_nonneg h] at this
  exact this
theorem fs_a63 {e : Int} (h : 0 ≤ e) (h2 : e < 256) : fs_i e &&& 63 = fs_i (e % 64) := by
  have key : ∀ n : Fin 256, fs_i (n.val : Int) &&& 63 = fs_i ((n.val : Int) % 64) := by decide +kernel
  have := key ⟨e.toNat, by omega⟩
  simp only [Int.toNat_of_nonneg h] at this
  exact this
/-! sums over the first k nodes -/
def fs_s (f : Int → Int) : Nat → Int | 0 => 0 | k + 1 => fs_s f k + f (k : Int)
theorem fs_s_c {f g : Int → Int} {k : Nat} (h : ∀ j : Int, 0 ≤ j → j < k → f j = g j) : fs_s f k = fs_s g k := by
  induction k with
  | zero => rfl
  | succ k ih =>
    unfold fs_s
    rw [ih (fun j a b => h j a (by omega)), h k (by omega) (by omega)]
theorem fs_s_le {f g : Int → Int} {k : Nat} (h : ∀ j : Int, 0 ≤ j → j < k → f j ≤ g j) : fs_s f k ≤ fs_s g k := by
  induction k with
  | zero => exact Int.le_refl _
  | succ k ih =>
    unfold fs_s
    have a := ih (fun j a b => h j a (by omega))
    have b := h k (by omega) (by omega)
    omega
theorem fs_s_k {f : Int → Int} {c : Int} {k : Nat} (h : ∀ j : Int, 0 ≤ j → j < k → f j ≤ c) : fs_s f k ≤ c * k := by
  induction k with
  | zero => simp [fs_s]
  | succ k ih =>
    unfold fs_s
    have a := ih (fun j a b => h j a (by omega))
    have b := h k (by omega) (by omega)
    rw [Int.natCast_add, Int.mul_add]
    simp only [Int.natCast_one, Int.mul_one]
    omega
theorem fs_s_0 {f : Int → Int} {k : Nat} (h : ∀ j : Int, 0 ≤ j → j < k → 0 ≤ f j) : 0 ≤ fs_s f k := by
  induction k with
  | zero => exact Int.le_refl _
  | succ k ih =>
    unfold fs_s
    have a := ih (fun j a b => h j a (by omega))
    have b := h k (by omega) (by omega)
    omega
theorem fs_s_p {f : Int → Int} {k : Nat} (h : ∀ j : Int, 0 ≤ j → j < k → 0 ≤ f j) {x : Int} (h0 : 0 ≤ x) (h1 : x < k) : f x ≤ fs_s f k := by
  induction k with
  | zero => omega
  | succ k ih =>
    unfold fs_s
    have b := h k (by omega) (by omega)
    by_cases c : x = k
    · rw [c]
      have a := fs_s_0 (f := f) (k := k) (fun j a b => h j a (by omega))
      omega
    · have a := ih (fun j a b => h j a (by omega)) (by omega)
      omega
/-- two functions that differ at one node -/
theorem fs_s_u {f g : Int → Int} {k : Nat} {x : Int} (h0 : 0 ≤ x) (h1 : x < k) (h : ∀ j : Int, 0 ≤ j → j < k → j ≠ x → g j = f j) : fs_s g k = fs_s f k - f x + g x := by
  induction k with
  | zero => omega
  | succ k ih =>
    unfold fs_s
    by_cases c : x = k
    · rw [fs_s_c (f := g) (g := f) (fun j a b => h j a (by omega) (by omega)), c]
      omega
    · rw [ih (by omega) (fun j a b => h j a (by omega)), h k (by omega) (by omega) (by omega)]
      omega
/-- two functions that differ at two nodes -/
theorem fs_s_v {f g : Int → Int} {k : Nat} {x y : Int} (hx : 0 ≤ x) (hx1 : x < k) (hy : 0 ≤ y) (hy1 : y < k) (hn : x ≠ y) (h : ∀ j : Int, 0 ≤ j → j < k → j ≠ x → j ≠ y → g j = f j) : fs_s g k = fs_s f k - f x + g x - f y + g y := by
  have a := fs_s_u (f := f) (g := fs_u f x (g x)) hx hx1 (fun j _ _ c => fs_un c)
  have b := fs_s_u (f := fs_u f x (g x)) (g := g) hy hy1 (fun j j0 j1 c => by
    by_cases d : j = x
    · rw [d, fs_us]
    · rw [fs_un d, h j j0 j1 d c])
  rw [fs_us] at a
  rw [fs_un (fun z => hn z.symm)] at b
  omega
/-! sums over lists of edges -/
def fs_m (L : Int → Int) : List Int → Int | [] => 0 | e :: l => L e + fs_m L l
theorem fs_m_c {L M : Int → Int} {l : List Int} (h : ∀ e, e ∈ l → L e = M e) : fs_m L l = fs_m M l := by
  induction l with
  | nil => rfl
  | cons e l ih =>
    unfold fs_m
    rw [h e (List.mem_cons_self), ih (fun x hx => h x (List.mem_cons_of_mem _ hx))]
theorem fs_m_0 {L : Int → Int} {l : List Int} (h : ∀ e, e ∈ l → 0 ≤ L e) : 0 ≤ fs_m L l := by
  induction l with
  | nil => exact Int.le_refl _
  | cons e l ih =>
    unfold fs_m
    have a := h e (List.mem_cons_self)
    have b := ih (fun x hx => h x (List.mem_cons_of_mem _ hx))
    omega
theorem fs_m_p {L : Int → Int} {l : List Int} (h : ∀ e, e ∈ l → 0 ≤ L e) {x : Int} (hx : x ∈ l) : L x ≤ fs_m L l := by
  induction l with
  | nil => cases hx
  | cons e l ih =>
    unfold fs_m
    have a := h e (List.mem_cons_self)
    have b := fs_m_0 (L := L) (l := l) (fun x hx => h x (List.mem_cons_of_mem _ hx))
    rcases List.mem_cons.mp hx with c | c
    · rw [c]
      omega
    · have d := ih (fun x hx => h x (List.mem_cons_of_mem _ hx)) c
      omega
theorem fs_m_u {L M : Int → Int} {l : List Int} {x : Int} (hn : l.Nodup) (hx : x ∈ l) (h : ∀ e, e ∈ l → e ≠ x → M e = L e) : fs_m M l = fs_m L l - L x + M x := by
  induction l with
  | nil => cases hx
  | cons e l ih =>
    unfold fs_m
    have nd := List.nodup_cons.mp hn
    rcases List.mem_cons.mp hx with c | c
    · rw [fs_m_c (L := M) (M := L) (fun y hy => h y (List.mem_cons_of_mem _ hy) (fun z => nd.1 (by rw [← c, ← z]; exact hy))), c]
      omega
    · rw [ih nd.2 c (fun y hy => h y (List.mem_cons_of_mem _ hy)), h e (List.mem_cons_self) (fun z => nd.1 (by rw [z]; exact c))]
      omega
end
section
/-! part 02: networks, rooms, queues -/
def fs_ch (N : Int → Int) : List Int → Int → Prop | [], e => e = -1 | x :: l, e => e = x ∧ fs_ch N l (N x)
/-- a network of m edges: E where edges go to, F the first edge of a node, N the next edge, ou the edges of a node -/
def fs_net (m : Int) (E F N : Int → Int) (ou : Int → List Int) : Prop :=
  m ≤ 56 ∧ m % 2 = 0 ∧ (∀ u, 0 ≤ u → u < 16 → fs_ch N (ou u) (F u) ∧ (ou u).Nodup ∧ ∀ e, e ∈ ou u → 0 ≤ e ∧ e < m ∧ E (fs_x e) = u) ∧
  (∀ e, 0 ≤ e → e < m → 0 ≤ E e ∧ E e < 16 ∧ E e ≠ E (fs_x e) ∧ e ∈ ou (E (fs_x e)))
section
variable {m : Int} {E F N : Int → Int} {ou : Int → List Int}
theorem fs_net_m (h : fs_net m E F N ou) : m ≤ 56 := h.1
theorem fs_net_ch (h : fs_net m E F N ou) {u : Int} (h0 : 0 ≤ u) (h1 : u < 16) : fs_ch N (ou u) (F u) := (h.2.2.1 u h0 h1).1
theorem fs_net_nd (h : fs_net m E F N ou) {u : Int} (h0 : 0 ≤ u) (h1 : u < 16) : (ou u).Nodup := (h.2.2.1 u h0 h1).2.1
theorem fs_net_ou (h : fs_net m E F N ou) {u e : Int} (h0 : 0 ≤ u) (h1 : u < 16) (he : e ∈ ou u) : 0 ≤ e ∧ e < m ∧ E (fs_x e) = u := (h.2.2.1 u h0 h1).2.2 e he
theorem fs_net_x (h : fs_net m E F N ou) {e : Int} (h0 : 0 ≤ e) (h1 : e < m) : 0 ≤ fs_x e ∧ fs_x e < m := by
  have a := fs_xb h0
  have b := a.2.2 (m / 2)
  have c := h.2.1
  exact ⟨a.1, by omega⟩
theorem fs_net_to (h : fs_net m E F N ou) {e : Int} (h0 : 0 ≤ e) (h1 : e < m) : 0 ≤ E e ∧ E e < 16 ∧ E e ≠ E (fs_x e) ∧ e ∈ ou (E (fs_x e)) := h.2.2.2 e h0 h1
theorem fs_net_fr (h : fs_net m E F N ou) {e : Int} (h0 : 0 ≤ e) (h1 : e < m) : 0 ≤ E (fs_x e) ∧ E (fs_x e) < 16 ∧ fs_x e ∈ ou (E e) := by
  have a := fs_net_x h h0 h1
  have b := fs_net_to h a.1 a.2
  rw [fs_xx] at b
  exact ⟨b.1, b.2.1, b.2.2.2⟩
/-- rooms -/
def fs_lp (m : Int) (K L : Int → Int) : Prop := ∀ e, 0 ≤ e → e < m → 0 ≤ L e ∧ L e + L (fs_x e) = K e ∧ K e ≤ 99
def fs_mv (L : Int → Int) (e x : Int) : Int → Int := fs_u (fs_u L e (L e - x)) (fs_x e) (L (fs_x e) + x)
theorem fs_mv_e {L : Int → Int} {e x : Int} : fs_mv L e x e = L e - x := by
  unfold fs_mv
  rw [fs_un (fun z => fs_xn e z.symm), fs_us]
theorem fs_mv_x {L : Int → Int} {e x : Int} : fs_mv L e x (fs_x e) = L (fs_x e) + x := by
  unfold fs_mv
  rw [fs_us]
theorem fs_mv_o {L : Int → Int} {e x j : Int} (h : j ≠ e) (h2 : j ≠ fs_x e) : fs_mv L e x j = L j := by
  unfold fs_mv
  rw [fs_un h2, fs_un h]
theorem fs_lp_b {K L : Int → Int} (hn : fs_net m E F N ou) (h : fs_lp m K L) {e : Int} (h0 : 0 ≤ e) (h1 : e < m) : 0 ≤ L e ∧ L e ≤ 99 := by
  have a := h e h0 h1
  have c := fs_net_x hn h0 h1
  have b := h (fs_x e) c.1 c.2
  omega
theorem fs_mv_lp {K L : Int → Int} {e x : Int} (hn : fs_net m E F N ou) (h : fs_lp m K L) (h0 : 0 ≤ e) (h1 : e < m) (hx : 0 ≤ x) (hl : x ≤ L e) : fs_lp m K (fs_mv L e x) := by
  intro j j0 j1
  have a := h j j0 j1
  have b := h e h0 h1
  have c := fs_net_x hn h0 h1
  have d := h (fs_x e) c.1 c.2
  rw [fs_xx] at d
  by_cases g : j = e
  · rw [g, fs_mv_e, fs_mv_x]
    rw [g] at a
    omega
  · by_cases g2 : j = fs_x e
    · rw [g2, fs_xx, fs_mv_e, fs_mv_x]
      rw [g2] at a
      rw [fs_xx] at a
      omega
    · rw [fs_mv_o g g2, fs_mv_o (fun z => g2 (by rw [← z, fs_xx])) (fun z => g (by rw [← fs_xx j, z, fs_xx]))]
      exact a
theorem fs_mv_m {L : Int → Int} {e x u : Int} (hn : fs_net m E F N ou) (h0 : 0 ≤ e) (h1 : e < m) (u0 : 0 ≤ u) (u1 : u < 16) : fs_m (fs_mv L e x) (ou u) = fs_m L (ou u) - (if u = E (fs_x e) then x else 0) + (if u = E e then x else 0) := by
  have t := fs_net_to hn h0 h1
  have r := fs_net_fr hn h0 h1
  have nd := fs_net_nd hn u0 u1
  by_cases c : u = E (fs_x e)
  · have c2 : ¬ u = E e := fun z => t.2.2.1 (by rw [← c, ← z])
    rw [if_pos c, if_neg c2]
    rw [fs_m_u (L := L) (M := fs_mv L e x) (x := e) nd (by rw [c]; exact t.2.2.2) (fun j hj g => fs_mv_o g (fun z => c2 (by
      have w := (fs_net_ou hn u0 u1 hj).2.2
      rw [z, fs_xx] at w
      exact w.symm))), fs_mv_e]
    omega
  · rw [if_neg c]
    by_cases c2 : u = E e
    · rw [if_pos c2]
      rw [fs_m_u (L := L) (M := fs_mv L e x) (x := fs_x e) nd (by rw [c2]; exact r.2.2) (fun j hj g => fs_mv_o (fun z => c (by
        have w := (fs_net_ou hn u0 u1 hj).2.2
        rw [z] at w
        exact w.symm)) g), fs_mv_x]
      omega
    · rw [if_neg c2]
      rw [fs_m_c (L := fs_mv L e x) (M := L) (fun j hj => by
        have w := (fs_net_ou hn u0 u1 hj).2.2
        exact fs_mv_o (fun z => c (by rw [z] at w; exact w.symm)) (fun z => c2 (by rw [z, fs_xx] at w; exact w.symm)))]
      omega
/-- the sum of a node is at most 297 where it has at most three edges -/
theorem fs_m_b {K L : Int → Int} {u : Int} (hn : fs_net m E F N ou) (h : fs_lp m K L) (u0 : 0 ≤ u) (u1 : u < 16) : 0 ≤ fs_m L (ou u) ∧ fs_m L (ou u) ≤ 99 * (ou u).length := by
  have hb : ∀ e, e ∈ ou u → 0 ≤ L e ∧ L e ≤ 99 := fun e he => fs_lp_b hn h (fs_net_ou hn u0 u1 he).1 (fs_net_ou hn u0 u1 he).2.1
  refine ⟨fs_m_0 (fun e he => (hb e he).1), ?_⟩
  have key : ∀ l : List Int, (∀ e, e ∈ l → 0 ≤ L e ∧ L e ≤ 99) → fs_m L l ≤ 99 * l.length := by
    intro l
    induction l with
    | nil => intro _; exact Int.le_refl _
    | cons x l ih =>
      intro hl
      unfold fs_m
      have a := hl x List.mem_cons_self
      have b := ih (fun y hy => hl y (List.mem_cons_of_mem _ hy))
      rw [List.length_cons]
      omega
  exact key _ hb
end
/-! queues -/
def fs_qa (Q : Int → Int) : List Int → Int → Prop | [], _ => True | x :: l, f => Q (f % 64) = x ∧ fs_qa Q l (f + 1)
theorem fs_qa_mod {Q : Int → Int} {q : List Int} : ∀ {f g : Int}, f % 64 = g % 64 → fs_qa Q q f → fs_qa Q q g := by
  induction q with
  | nil => intro f g _ _; exact trivial
  | cons x l ih =>
    intro f g e h
    exact ⟨by rw [← e]; exact h.1, ih (by omega) h.2⟩
theorem fs_qa_app {Q : Int → Int} {x : Int} {q : List Int} : ∀ {f : Int}, 0 ≤ f → q.length < 64 → fs_qa Q q f → fs_qa (fs_u Q ((f + q.length) % 64) x) (q ++ [x]) f := by
  induction q with
  | nil =>
    intro f _ _ _
    refine ⟨?_, trivial⟩
    rw [List.length_nil, show f + ((0 : Nat) : Int) = f by omega, fs_us]
  | cons y l ih =>
    intro f h0 hl h
    rw [List.length_cons] at hl
    refine ⟨?_, ?_⟩
    · rw [fs_un (by rw [List.length_cons]; omega)]
      exact h.1
    · have a := ih (f := f + 1) (by omega) (by omega) h.2
      rw [List.length_cons, show f + ((l.length + 1 : Nat) : Int) = f + 1 + (l.length : Int) by omega]
      exact a
def fs_q (f s : Int) (Q D : Int → Int) (q : List Int) : Prop :=
  0 ≤ f ∧ f < 64 ∧ s = q.length ∧ fs_qa Q q f ∧ q.Nodup ∧ (∀ x, x ∈ q → 0 ≤ x ∧ x < 16) ∧ (∀ x, 0 ≤ x → x < 16 → (x ∈ q → D x = 1) ∧ (x ∉ q → D x = 0)) ∧ s = fs_s D 16
theorem fs_q_len {f s : Int} {Q D : Int → Int} {q : List Int} (h : fs_q f s Q D q) : 0 ≤ s ∧ s ≤ 16 := by
  obtain ⟨_, _, hs, _, _, _, hD, hc⟩ := h
  refine ⟨by omega, ?_⟩
  have := fs_s_k (f := D) (c := 1) (k := 16) (fun j j0 j1 => by
    by_cases c : j ∈ q
    · rw [(hD j j0 (by omega)).1 c]
      exact Int.le_refl _
    · rw [(hD j j0 (by omega)).2 c]
      decide)
  omega
section
variable {post : St2 → Prop} {pr so sk ed fw qf qs oc : Int32} {a1 a2 a3 a4 a5 a6 a7 a8 a9 a10 a11 a12 a13 a14 a15 a16 a17 a18 a19 : Nat → Int32}
theorem fs_move {L : Int → Int} {e x : Int} {p0 p1 : Int32} (h0 : 0 ≤ e) (h1 : e < 56) (H : post (pr, so, sk, ed, fw, qf, qs, oc, a1, a2, a3, a4, fs_a (fs_mv L e x), a6, a7, a8, a9, a10, a11, a12, a13, a14, a15, a16, a17, a18, a19)) (hp : p0 = fs_i e := by rfl) (hx : p1 = fs_i x := by rfl) : wpX_move post (pr, so, sk, ed, fw, qf, qs, oc, a1, a2, a3, a4, fs_a L, a6, a7, a8, a9, a10, a11, a12, a13, a14, a15, a16, a17, a18, a19) p0 p1 := by
  subst hp hx
  unfold wpX_move
  dsimp only
  have a := fs_xb h0
  have b := a.2.2 28
  rw [fs_xor h0 h1]
  refine ⟨fs_in h0 (by omega), fs_in h0 (by omega), nm_r (e' := fs_a (fs_u L e (L e - x))) (by rw [fs_rd h0 (by omega), fs_sub, fs_up h0 (by omega)]) ⟨fs_in a.1 (by omega), fs_in a.1 (by omega), nm_r (e' := fs_a (fs_mv L e x)) ?_ H⟩⟩
  rw [fs_rd a.1 (by omega), fs_add, fs_up a.1 (by omega), fs_un (fs_xn e)]
  rfl
theorem fs_enq {q : List Int} {f s x : Int} {Q D : Int → Int} {p0 : Int32} (hq : fs_q f s Q D q) (h0 : 0 ≤ x) (h1 : x < 16)
    (H : ∀ s' Q' D' q', fs_q f s' Q' D' q' → (q' = if x ∈ q then q else q ++ [x]) → post (pr, so, sk, ed, fw, fs_i f, fs_i s', oc, a1, a2, a3, a4, a5, a6, a7, a8, a9, a10, a11, a12, fs_a Q', fs_a D', a15, a16, a17, a18, a19)) (hp : p0 = fs_i x := by rfl) :
    wpX_enqueue post (pr, so, sk, ed, fw, fs_i f, fs_i s, oc, a1, a2, a3, a4, a5, a6, a7, a8, a9, a10, a11, a12, fs_a Q, fs_a D, a15, a16, a17, a18, a19) p0 := by
  subst hp
  unfold wpX_enqueue
  dsimp only
  have hl := fs_q_len hq
  have hq0 := hq
  obtain ⟨f0, f1, hs, ha, hn, hr, hD, hc⟩ := hq
  refine ⟨fs_in h0 (by omega), ?_⟩
  rw [fs_rd h0 (by omega), fs_add]
  by_cases c : x ∈ q
  · refine br_f ?_ (H s Q D q hq0 (by rw [if_pos c]))
    rw [(hD x h0 h1).1 c]
    decide
  · refine br_t ?_ ?_
    · rw [(hD x h0 h1).2 c]
      rfl
    · rw [fs_a63 (by omega) (by omega), fs_b8 (by omega) (by omega)]
      refine ⟨fs_in (by omega) (by omega), nm_r (fs_up (by omega) (by omega)) (nm_r (fs_p1 s) ⟨fs_in h0 (by omega), nm_r (e' := fs_a (fs_u D x 1)) (fs_uq h0 (by omega)) ?_⟩)⟩
      refine H (s + 1) _ _ (q ++ [x]) ⟨f0, f1, ?_, ?_, ?_, ?_, ?_, ?_⟩ (by rw [if_neg c])
      · rw [List.length_append, List.length_singleton]
        omega
      · rw [hs]
        exact fs_qa_app f0 (by omega) ha
      · rw [List.nodup_append]
        refine ⟨hn, by simp, ?_⟩
        intro a ha b hb
        rw [List.mem_singleton] at hb
        intro z
        exact c (by rw [← hb, ← z]; exact ha)
      · intro y hy
        rcases List.mem_append.mp hy with g | g
        · exact hr y g
        · rw [List.mem_singleton] at g
          omega
      · intro y y0 y1
        by_cases g : y = x
        · rw [g, fs_us]
          exact ⟨fun _ => rfl, fun z => absurd (List.mem_append.mpr (Or.inr (List.mem_singleton.mpr rfl))) z⟩
        · rw [fs_un g]
          have w := hD y y0 y1
          refine ⟨fun z => w.1 ?_, fun z => w.2 (fun v => z (List.mem_append.mpr (Or.inl v)))⟩
          rcases List.mem_append.mp z with v | v
          · exact v
          · exact absurd (List.mem_singleton.mp v) g
      · have w := fs_s_u (f := D) (g := fs_u D x 1) (k := 16) h0 (by omega) (fun j _ _ g => fs_un g)
        rw [fs_us, (hD x h0 h1).2 c] at w
        omega
theorem fs_deq {post : Int32 → St2 → Prop} {q : List Int} {f s x : Int} {Q D : Int → Int} (hq : fs_q f s Q D (x :: q))
    (H : ∀ f' D', fs_q f' (s - 1) Q D' q → post (fs_i x) (pr, so, sk, ed, fw, fs_i f', fs_i (s - 1), oc, a1, a2, a3, a4, a5, a6, a7, a8, a9, a10, a11, a12, fs_a Q, fs_a D', a15, a16, a17, a18, a19)) :
    wpX_dequeue post (pr, so, sk, ed, fw, fs_i f, fs_i s, oc, a1, a2, a3, a4, a5, a6, a7, a8, a9, a10, a11, a12, fs_a Q, fs_a D, a15, a16, a17, a18, a19) := by
  unfold wpX_dequeue
  dsimp only
  obtain ⟨f0, f1, hs, ha, hn, hr, hD, hc⟩ := hq
  have hx := hr x List.mem_cons_self
  have e1 : Q f = x := by
    have w := ha.1
    rw [show f % 64 = f by omega] at w
    exact w
  rw [fs_rd f0 (by omega), e1, fs_p1, fs_m1, fs_a63 (by omega) (by omega)]
  have nd := List.nodup_cons.mp hn
  refine ⟨fs_in f0 (by omega), nm_e (nm_e (nm_e ⟨fs_in hx.1 (by omega), nm_r (e' := fs_a (fs_u D x 0)) (fs_uq hx.1 (by omega)) ?_⟩))⟩
  rw [List.length_cons] at hs
  refine H _ _ ⟨by omega, by omega, by omega, fs_qa_mod (by omega) ha.2, nd.2, fun y hy => hr y (List.mem_cons_of_mem _ hy), ?_, ?_⟩
  · intro y y0 y1
    by_cases g : y = x
    · rw [g, fs_us]
      exact ⟨fun z => absurd z nd.1, fun _ => rfl⟩
    · rw [fs_un g]
      have w := hD y y0 y1
      exact ⟨fun z => w.1 (List.mem_cons_of_mem _ z), fun z => w.2 (fun v => by
        rcases List.mem_cons.mp v with t | t
        · exact g t
        · exact z t)⟩
  · have w := fs_s_u (f := D) (g := fs_u D x 0) (k := 16) hx.1 (by omega) (fun j _ _ g => fs_un g)
    rw [fs_us, (hD x hx.1 hx.2).1 List.mem_cons_self] at w
    omega
theorem fs_clq_12 (H : ∀ D : Int → Int, (∀ j, 0 ≤ j → j < 16 → D j = 0) → post (pr, so, sk, ed, fw, qf, qs, oc, a1, a2, a3, a4, a5, a6, a7, a8, a9, a10, a11, a12, a13, fs_a D, a15, a16, a17, a18, a19)) : ∀ (n : Nat) (k : Int) (D : Int → Int), 0 ≤ k → k ≤ 16 → (∀ j, 0 ≤ j → j < k → D j = 0) → 16 - k < n → wX_clearQueue_12 post pr so sk ed fw qf qs oc n (fs_i k) a1 a2 a3 a4 a5 a6 a7 a8 a9 a10 a11 a12 a13 (fs_a D) a15 a16 a17 a18 a19 := by
  intro n
  induction n with
  | zero => intro k D k0 k1 hD hn; omega
  | succ n ih =>
    intro k D k0 k1 hD hn
    unfold wX_clearQueue_12
    refine fs_le 16 k (fun g => H D (fun j a b => hD j a (by omega))) (fun g => ⟨fs_in k0 (by omega), nm_r (e' := fs_a (fs_u D k 0)) (fs_uq k0 (by omega)) (nm_r (fs_p1 k) (ih (k + 1) _ (by omega) (by omega) ?_ (by omega)))⟩)
    intro j a b
    by_cases c : j = k
    · rw [c, fs_us]
    · rw [fs_un c]
      exact hD j a (by omega)
theorem fs_clq {Q D : Int → Int} (H : ∀ D' : Int → Int, fs_q 0 0 Q D' [] → post (pr, so, sk, ed, fw, fs_i 0, fs_i 0, oc, a1, a2, a3, a4, a5, a6, a7, a8, a9, a10, a11, a12, fs_a Q, fs_a D', a15, a16, a17, a18, a19)) : wpX_clearQueue post (pr, so, sk, ed, fw, qf, qs, oc, a1, a2, a3, a4, a5, a6, a7, a8, a9, a10, a11, a12, fs_a Q, fs_a D, a15, a16, a17, a18, a19) := by
  unfold wpX_clearQueue
  dsimp only
  refine ⟨17, fs_clq_12 (fun D' hD => H D' ⟨by decide, by decide, rfl, trivial, List.nodup_nil, fun x hx => (by cases hx), fun x x0 x1 => ⟨fun z => (by cases z), fun _ => hD x x0 x1⟩, ?_⟩) 17 0 D (by omega) (by omega) (fun j a b => by omega) (by omega)⟩
  rw [fs_s_c (f := D') (g := fun _ => 0) (k := 16) (fun j a b => hD j a (by omega))]
  rfl
end
end
section
/-! part 03: findLevels -/
theorem fs_ifm {q q' : List Int} {x : Int} (h : q' = if x ∈ q then q else q ++ [x]) : (∀ y, y ∈ q' ↔ y ∈ q ∨ y = x) ∧ (q'.length : Int) ≤ q.length + 1 := by
  by_cases c : x ∈ q
  · rw [if_pos c] at h
    subst h
    exact ⟨fun y => ⟨fun z => Or.inl z, fun z => z.elim id (fun e => by rw [e]; exact c)⟩, by omega⟩
  · rw [if_neg c] at h
    subst h
    refine ⟨fun y => ?_, ?_⟩
    · rw [List.mem_append, List.mem_singleton]
    · rw [List.length_append, List.length_singleton]
      omega
def fs_cn (V : Int → Int) : Int := fs_s (fun x => if V x < 0 then 1 else 0) 16
theorem fs_cn_u {V : Int → Int} {v z : Int} (h0 : 0 ≤ v) (h1 : v < 16) (h : V v < 0) (hz : 0 ≤ z) : fs_cn (fs_u V v z) = fs_cn V - 1 := by
  unfold fs_cn
  rw [fs_s_u (f := fun x => if V x < 0 then 1 else 0) (x := v) (k := 16) h0 (by omega) (fun j _ _ g => by rw [fs_un g])]
  rw [fs_us, if_pos h, if_neg (by omega)]
  omega
theorem fs_cn_0 (V : Int → Int) : 0 ≤ fs_cn V := fs_s_0 (fun j _ _ => by
  split <;> omega)
def fs_bi (m least : Int) (E L : Int → Int) (ou : Int → List Int) (s u : Int) (V C : Int → Int) (q : List Int) : Prop :=
  (∀ x, 0 ≤ x → x < 16 → V x = -1 ∨ 0 ≤ V x) ∧ V s = 0 ∧
  (∀ x, 0 ≤ x → x < 16 → 0 ≤ V x → x ≠ s → 0 ≤ C x ∧ C x < m ∧ E (C x) = x ∧ 0 ≤ V (E (fs_x (C x))) ∧ V x = V (E (fs_x (C x))) + 1 ∧ least ≤ L (C x)) ∧
  (∀ x, 0 ≤ x → x < 16 → 0 ≤ V x → x ∉ q → x ≠ u → ∀ e, e ∈ ou x → least ≤ L e → 0 ≤ V (E e)) ∧
  (∀ x, x ∈ q → 0 ≤ V x) ∧
  (∀ x, 0 ≤ x → x < 16 → V x + fs_cn V ≤ 15)
/-- what findLevels leaves -/
def fs_bp (m least : Int) (E L : Int → Int) (ou : Int → List Int) (s : Int) (V C : Int → Int) : Prop :=
  (∀ x, 0 ≤ x → x < 16 → V x = -1 ∨ (0 ≤ V x ∧ V x ≤ 15)) ∧ V s = 0 ∧
  (∀ x, 0 ≤ x → x < 16 → 0 ≤ V x → x ≠ s → 0 ≤ C x ∧ C x < m ∧ E (C x) = x ∧ 0 ≤ V (E (fs_x (C x))) ∧ V x = V (E (fs_x (C x))) + 1 ∧ least ≤ L (C x)) ∧
  (∀ x, 0 ≤ x → x < 16 → 0 ≤ V x → ∀ e, e ∈ ou x → least ≤ L e → 0 ≤ V (E e))
section
variable {m least s : Int} {E F N L : Int → Int} {ou : Int → List Int}
theorem fs_bi_bp {V C : Int → Int} (h : fs_bi m least E L ou s (-1) V C []) : fs_bp m least E L ou s V C := by
  obtain ⟨i1, i2, i3, i4, i5, i6⟩ := h
  refine ⟨fun x x0 x1 => ?_, i2, i3, fun x x0 x1 hx => i4 x x0 x1 hx (fun z => by cases z) (by omega)⟩
  have a := i1 x x0 x1
  have b := i6 x x0 x1
  have c := fs_cn_0 V
  omega
theorem fs_bi_add {u x : Int} {V C : Int → Int} {q q' : List Int} (hn : fs_net m E F N ou) (h : fs_bi m least E L ou s u V C q) (u0 : 0 ≤ u) (u1 : u < 16) (hu : 0 ≤ V u) (hx : x ∈ ou u) (hv : V (E x) < 0) (hl : least ≤ L x) (hq : ∀ y, y ∈ q' ↔ y ∈ q ∨ y = E x) :
    fs_bi m least E L ou s u (fs_u V (E x) (V u + 1)) (fs_u C (E x) x) q' := by
  obtain ⟨i1, i2, i3, i4, i5, i6⟩ := h
  have xo := fs_net_ou hn u0 u1 hx
  have xt := fs_net_to hn xo.1 xo.2.1
  have V0 : ∀ y, 0 ≤ V y → 0 ≤ fs_u V (E x) (V u + 1) y := by
    intro y hy
    by_cases g : y = E x
    · rw [g, fs_us]
      omega
    · rw [fs_un g]
      exact hy
  have hne : ∀ y, 0 ≤ V y → y ≠ E x := fun y hy z => by rw [z] at hy; omega
  refine ⟨fun y y0 y1 => ?_, ?_, fun y y0 y1 hy ys => ?_, fun y y0 y1 hy yq yu e he hle => ?_, fun y hy => ?_, fun y y0 y1 => ?_⟩
  · by_cases g : y = E x
    · rw [g, fs_us]
      omega
    · rw [fs_un g]
      exact i1 y y0 y1
  · rw [fs_un (hne s (by omega))]
    exact i2
  · by_cases g : y = E x
    · rw [g, fs_us, fs_us, xo.2.2, fs_un (hne u hu)]
      exact ⟨xo.1, xo.2.1, rfl, hu, rfl, hl⟩
    · rw [fs_un g] at hy
      have t := i3 y y0 y1 hy ys
      rw [fs_un g, fs_un g, fs_un (hne _ t.2.2.2.1)]
      exact t
  · have g : y ≠ E x := fun z => yq ((hq y).mpr (Or.inr z))
    rw [fs_un g] at hy
    exact V0 _ (i4 y y0 y1 hy (fun z => yq ((hq y).mpr (Or.inl z))) yu e he hle)
  · rcases (hq y).mp hy with g | g
    · exact V0 _ (i5 y g)
    · rw [g, fs_us]
      omega
  · rw [fs_cn_u xt.1 xt.2.1 hv (by omega)]
    by_cases g : y = E x
    · have a := i6 u u0 u1
      rw [g, fs_us]
      omega
    · have a := i6 y y0 y1
      rw [fs_un g]
      omega
end
section
variable {m least s t u : Int} {E F N L : Int → Int} {ou : Int → List Int} {post : Int32 → St2 → Prop} {J : Int32 → Int32 → Int32 → Int32 → Int32 → Int32 → Int32 → Int32 → (Nat → Int32) → (Nat → Int32) → (Nat → Int32) → (Nat → Int32) → (Nat → Int32) → (Nat → Int32) → (Nat → Int32) → (Nat → Int32) → (Nat → Int32) → (Nat → Int32) → (Nat → Int32) → (Nat → Int32) → (Nat → Int32) → (Nat → Int32) → (Nat → Int32) → (Nat → Int32) → (Nat → Int32) → (Nat → Int32) → (Nat → Int32) → Prop} {pr so sk ed fw qf qs oc : Int32} {a1 a2 a3 a4 a5 a6 a7 a8 a9 a10 a11 a12 a13 a14 a15 a16 a17 a18 a19 : Nat → Int32}
theorem fs_fl_62 {K : Int → Int} {f B : Int} (hn : fs_net m E F N ou) (hk : fs_lp m K L) (u0 : 0 ≤ u) (u1 : u < 16) (l0 : 0 ≤ least) (l1 : least < 1000)
    (hJ : ∀ V C r Q D q, fs_bi m least E L ou s (-1) V C q → fs_q f r Q D q → 2 * fs_cn V + r ≤ B → J pr so sk ed fw (fs_i f) (fs_i r) oc a1 a2 a3 (fs_a E) (fs_a L) (fs_a F) (fs_a N) (fs_a V) a9 (fs_a C) a11 a12 (fs_a Q) (fs_a D) a15 a16 a17 a18 a19) :
    ∀ (n : Nat) (l : List Int) (e : Int) (V C : Int → Int) (r : Int) (Q D : Int → Int) (q : List Int), fs_ch N l e → (∀ x, x ∈ l → x ∈ ou u) → fs_bi m least E L ou s u V C q → (∀ x, x ∈ ou u → x ∉ l → least ≤ L x → 0 ≤ V (E x)) → 0 ≤ V u → fs_q f r Q D q → 2 * fs_cn V + r ≤ B → l.length < n →
      wX_findLevels_62 post J (fs_i least) (fs_i u) n (fs_i e) pr so sk ed fw (fs_i f) (fs_i r) oc a1 a2 a3 (fs_a E) (fs_a L) (fs_a F) (fs_a N) (fs_a V) a9 (fs_a C) a11 a12 (fs_a Q) (fs_a D) a15 a16 a17 a18 a19 := by
  intro n
  induction n with
  | zero => intro l e V C r Q D q _ _ _ _ _ _ _ h; omega
  | succ n ih =>
    intro l e V C r Q D q hc hs hi hd hu hq hB hl
    unfold wX_findLevels_62
    cases l with
    | nil =>
      have he : e = -1 := hc
      subst he
      refine fs_lt (-1) 0 (fun _ => hJ V C r Q D q ?_ hq hB) (fun g => absurd g (by omega))
      obtain ⟨i1, i2, i3, i4, i5, i6⟩ := hi
      refine ⟨i1, i2, i3, fun x x0 x1 hx xq _ => ?_, i5, i6⟩
      by_cases g : x = u
      · subst g
        exact fun e he hle => hd e he (fun z => by cases z) hle
      · exact i4 x x0 x1 hx xq g
    | cons x l =>
      have he : e = x := hc.1
      subst he
      rw [List.length_cons] at hl
      have hxo := hs e List.mem_cons_self
      have xo := fs_net_ou hn u0 u1 hxo
      have xt := fs_net_to hn xo.1 xo.2.1
      have hm := fs_net_m hn
      have hb := fs_lp_b hn hk xo.1 xo.2.1
      have hvb := hi.1 (E e) xt.1 xt.2.1
      have hvc := hi.2.2.2.2.2 (E e) xt.1 xt.2.1
      have hc0 := fs_cn_0 V
      have skip : (least ≤ L e → 0 ≤ V (E e)) → wX_findLevels_62 post J (fs_i least) (fs_i u) n (fs_i (N e)) pr so sk ed fw (fs_i f) (fs_i r) oc a1 a2 a3 (fs_a E) (fs_a L) (fs_a F) (fs_a N) (fs_a V) a9 (fs_a C) a11 a12 (fs_a Q) (fs_a D) a15 a16 a17 a18 a19 := fun hok =>
        ih l (N e) V C r Q D q hc.2 (fun y hy => hs y (List.mem_cons_of_mem _ hy)) hi (fun y hy yl hyl => by
          by_cases g : y = e
          · rw [g]
            rw [g] at hyl
            exact hok hyl
          · exact hd y hy (fun z => by
              rcases List.mem_cons.mp z with w | w
              · exact g w
              · exact yl w) hyl) hu hq hB (by omega)
      refine fs_lt e 0 (fun g => absurd g (by omega)) (fun _ => ⟨fs_in xo.1 (by omega), nm_r (fs_rd xo.1 (by omega)) ⟨fs_in xo.1 (by omega), ?_⟩⟩)
      refine fs_lt (L e) least (fun g => ⟨fs_in xo.1 (by omega), nm_r (fs_rd xo.1 (by omega)) (skip (fun z => absurd z (by omega)))⟩) (fun g => ⟨fs_in xt.1 (by omega), ?_⟩) (fs_rd xo.1 (by omega)) rfl
      refine fs_le 0 (V (E e)) (fun g2 => ⟨fs_in xo.1 (by omega), nm_r (fs_rd xo.1 (by omega)) (skip (fun _ => g2))⟩) (fun g2 => ⟨fs_in u0 (by omega), fs_in xt.1 (by omega), ?_⟩) rfl (fs_rd xt.1 (by omega))
      refine nm_r (e' := fs_a (fs_u V (E e) (V u + 1))) (by rw [fs_rd u0 (by omega), fs_p1, fs_up xt.1 (by omega)]) ⟨fs_in xt.1 (by omega), nm_r (e' := fs_a (fs_u C (E e) e)) (by rw [fs_b8 (by omega) (by omega), fs_up xt.1 (by omega)]) ?_⟩
      refine fs_enq hq xt.1 xt.2.1 (fun r' Q' D' q' hq' hqe => ⟨fs_in xo.1 (by omega), nm_r (fs_rd xo.1 (by omega)) ?_⟩)
      have hm' := fs_ifm hqe
      refine ih l (N e) _ _ r' Q' D' q' hc.2 (fun y hy => hs y (List.mem_cons_of_mem _ hy)) (fs_bi_add hn hi u0 u1 hu hxo (by omega) (by omega) hm'.1) (fun y hy yl hyl => ?_) ?_ hq' ?_ (by omega)
      · by_cases g3 : E y = E e
        · rw [g3, fs_us]
          omega
        · rw [fs_un g3]
          exact hd y hy (fun z => by
              rcases List.mem_cons.mp z with w | w
              · exact g3 (by rw [w])
              · exact yl w) hyl
      · rw [fs_un (fun z => by rw [← z] at g2; omega)]
        exact hu
      · rw [fs_cn_u xt.1 xt.2.1 (by omega) (by omega)]
        have z1 := hq'.2.2.1
        have z2 := hq.2.2.1
        omega
theorem fs_fl_43 {K : Int → Int} (hn : fs_net m E F N ou) (hk : fs_lp m K L) (t0 : 0 ≤ t) (t1 : t < 16) (l0 : 0 ≤ least) (l1 : least < 1000)
    (hp : ∀ (rr : Int32) V C f r Q D, fs_bp m least E L ou s V C → (rr = 0 ∧ V t < 0) ∨ (rr = 1 ∧ 0 ≤ V t) → post rr (pr, so, fs_i t, ed, fw, fs_i f, fs_i r, oc, a1, a2, a3, fs_a E, fs_a L, fs_a F, fs_a N, fs_a V, a9, fs_a C, a11, a12, fs_a Q, fs_a D, a15, a16, a17, a18, a19)) :
    ∀ (n : Nat) (V C : Int → Int) (f r : Int) (Q D : Int → Int) (q : List Int), fs_bi m least E L ou s (-1) V C q → fs_q f r Q D q → 2 * fs_cn V + r < n →
      wX_findLevels_43 post (fs_i least) n pr so (fs_i t) ed fw (fs_i f) (fs_i r) oc a1 a2 a3 (fs_a E) (fs_a L) (fs_a F) (fs_a N) (fs_a V) a9 (fs_a C) a11 a12 (fs_a Q) (fs_a D) a15 a16 a17 a18 a19 := by
  intro n
  induction n with
  | zero =>
    intro V C f r Q D q hi hq hl
    have a := fs_cn_0 V
    have b := fs_q_len hq
    omega
  | succ n ih =>
    intro V C f r Q D q hi hq hl
    have hlen := fs_q_len hq
    unfold wX_findLevels_43
    cases q with
    | nil =>
      have hr : r = 0 := hq.2.2.1
      subst hr
      refine fs_le 0 0 (fun _ => ⟨fs_in t0 (by omega), ?_⟩) (fun g => absurd g (by omega))
      have hb := fs_bi_bp hi
      have hvb := hb.1 t t0 t1
      exact fs_lt (V t) 0 (fun g => hp 0 V C f 0 Q D hb (Or.inl ⟨rfl, g⟩)) (fun g => hp 1 V C f 0 Q D hb (Or.inr ⟨rfl, g⟩)) (fs_rd t0 (by omega)) rfl
    | cons x q =>
      have hr : r = (x :: q).length := hq.2.2.1
      rw [List.length_cons] at hr
      have hx := hq.2.2.2.2.2.1 x List.mem_cons_self
      have hxv := hi.2.2.2.2.1 x List.mem_cons_self
      refine fs_le r 0 (fun g => absurd g (by omega)) (fun _ => fs_deq hq (fun f' D' hq' => ⟨fs_in hx.1 (by omega), nm_r (fs_rd hx.1 (by omega)) ⟨(ou x).length + 1, ?_⟩⟩))
      refine fs_fl_62 (B := 2 * fs_cn V + (r - 1)) hn hk hx.1 hx.2 l0 l1 (fun V2 C2 r2 Q2 D2 q2 hi2 hq2 hB2 => ih V2 C2 f' r2 Q2 D2 q2 hi2 hq2 (by omega)) _ (ou x) (F x) V C (r - 1) Q D' q (fs_net_ch hn hx.1 hx.2) (fun y hy => hy) ?_ (fun y hy yl => absurd hy yl) hxv hq' (by omega) (by omega)
      obtain ⟨i1, i2, i3, i4, i5, i6⟩ := hi
      refine ⟨i1, i2, i3, fun y y0 y1 hy yq yu => i4 y y0 y1 hy (fun z => ?_) (by omega), fun y hy => i5 y (List.mem_cons_of_mem _ hy), i6⟩
      rcases List.mem_cons.mp z with w | w
      · exact yu w
      · exact yq w
theorem fs_fl_2 (H : ∀ V : Int → Int, (∀ j, 0 ≤ j → j < 16 → V j = -1) → wX_findLevels_2 post (fs_i least) pr so sk ed fw qf qs oc 1 16 a1 a2 a3 a4 a5 a6 a7 (fs_a V) a9 a10 a11 a12 a13 a14 a15 a16 a17 a18 a19) : ∀ (n : Nat) (k : Int) (V : Int → Int), 0 ≤ k → k ≤ 16 → (∀ j, 0 ≤ j → j < k → V j = -1) → 16 - k < n → wX_findLevels_2 post (fs_i least) pr so sk ed fw qf qs oc n (fs_i k) a1 a2 a3 a4 a5 a6 a7 (fs_a V) a9 a10 a11 a12 a13 a14 a15 a16 a17 a18 a19 := by
  intro n
  induction n with
  | zero => intro k V k0 k1 hV hn; omega
  | succ n ih =>
    intro k V k0 k1 hV hn
    unfold wX_findLevels_2
    refine fs_le 16 k (fun g => ?_) (fun g => ⟨fs_in k0 (by omega), nm_r (e' := fs_a (fs_u V k (-1))) (fs_uq k0 (by omega) (by decide)) (nm_r (fs_p1 k) (ih (k + 1) _ (by omega) (by omega) ?_ (by omega)))⟩)
    · have w := H V (fun j a b => hV j a (by omega))
      unfold wX_findLevels_2 at w
      exact w.1 (by decide)
    · intro j a b
      by_cases c : j = k
      · rw [c, fs_us]
      · rw [fs_un c]
        exact hV j a (by omega)
theorem fs_fl {K V0 C0 Q0 D0 : Int → Int} (hn : fs_net m E F N ou) (hk : fs_lp m K L) (s0 : 0 ≤ s) (s1 : s < 16) (t0 : 0 ≤ t) (t1 : t < 16) (l0 : 0 ≤ least) (l1 : least < 1000)
    (hp : ∀ (rr : Int32) V C f r Q D, fs_bp m least E L ou s V C → (rr = 0 ∧ V t < 0) ∨ (rr = 1 ∧ 0 ≤ V t) → post rr (pr, fs_i s, fs_i t, ed, fw, fs_i f, fs_i r, oc, a1, a2, a3, fs_a E, fs_a L, fs_a F, fs_a N, fs_a V, a9, fs_a C, a11, a12, fs_a Q, fs_a D, a15, a16, a17, a18, a19)) :
    wpX_findLevels post (pr, fs_i s, fs_i t, ed, fw, qf, qs, oc, a1, a2, a3, fs_a E, fs_a L, fs_a F, fs_a N, fs_a V0, a9, fs_a C0, a11, a12, fs_a Q0, fs_a D0, a15, a16, a17, a18, a19) (fs_i least) := by
  unfold wpX_findLevels
  dsimp only
  refine ⟨17, fs_fl_2 (fun V hV => ?_) 17 0 V0 (by omega) (by omega) (fun j a b => by omega) (by omega)⟩
  unfold wX_findLevels_2
  refine br_t (by decide) (fs_clq (fun D hq => ⟨fs_in s0 (by omega), nm_r (e' := fs_a (fs_u V s 0)) (fs_uq s0 (by omega)) ?_⟩))
  refine fs_enq hq s0 s1 (fun r Q D q hq hqe => ⟨40, fs_fl_43 hn hk t0 t1 l0 l1 hp 40 (fs_u V s 0) C0 0 r Q D q ?_ hq ?_⟩)
  · have hm := (fs_ifm hqe).1
    have hcn : fs_cn (fs_u V s 0) = 15 := by
      rw [fs_cn_u s0 s1 (by rw [hV s s0 s1]; decide) (by omega)]
      unfold fs_cn
      rw [fs_s_c (f := fun x => if V x < 0 then 1 else 0) (g := fun _ => 1) (k := 16) (fun j a b => by
        rw [hV j a (by omega)]
        rfl)]
      rfl
    have hV' : ∀ x, 0 ≤ x → x < 16 → x ≠ s → fs_u V s 0 x = -1 := fun x a b c => by rw [fs_un c, hV x a b]
    refine ⟨fun x x0 x1 => ?_, fs_us, fun x x0 x1 hx xs => absurd (hV' x x0 x1 xs) (by omega), fun x x0 x1 hx xq _ => ?_, fun x hx => ?_, fun x x0 x1 => ?_⟩
    · by_cases g : x = s
      · rw [g, fs_us]
        omega
      · exact Or.inl (hV' x x0 x1 g)
    · by_cases g : x = s
      · exact absurd ((hm x).mpr (Or.inr g)) xq
      · rw [hV' x x0 x1 g] at hx
        omega
    · rcases (hm x).mp hx with g | g
      · cases g
      · rw [g, fs_us]
        omega
    · rw [hcn]
      by_cases g : x = s
      · rw [g, fs_us]
        omega
      · rw [hV' x x0 x1 g]
        omega
  · have hl := fs_q_len hq
    have hz := (fs_ifm hqe).2
    have hz2 := hq.2.2.1
    have hcn : fs_cn (fs_u V s 0) = 15 := by
      rw [fs_cn_u s0 s1 (by rw [hV s s0 s1]; decide) (by omega)]
      unfold fs_cn
      rw [fs_s_c (f := fun x => if V x < 0 then 1 else 0) (g := fun _ => 1) (k := 16) (fun j a b => by
        rw [hV j a (by omega)]
        rfl)]
      rfl
    rw [List.length_nil] at hz
    omega
end
end
section
/-! part 04: valid flows, fillWay, the engines 0 and 4 -/
def fs_vf (m s t : Int) (K L : Int → Int) (ou : Int → List Int) (Cn : Int → Int) (fl : Int) : Prop :=
  fs_lp m K L ∧ ∀ u, 0 ≤ u → u < 16 → u ≠ t → fs_m L (ou u) = Cn u - (if u = s then fl else 0)
def fs_cl1 (E L : Int → Int) (ou : Int → List Int) (s t : Int) : Prop :=
  ∃ S : Int → Prop, S s ∧ ¬ S t ∧ ∀ x, 0 ≤ x → x < 16 → S x → ∀ e, e ∈ ou x → 1 ≤ L e → S (E e)
/-- a greatest flow -/
def fs_mx (m s t : Int) (K E : Int → Int) (ou : Int → List Int) (Cn : Int → Int) (fl : Int) : Prop :=
  ∃ L, fs_vf m s t K L ou Cn fl ∧ fs_cl1 E L ou s t
/-- what every engine may leave behind -/
def fs_ok (post : St2 → Prop) (pr so sk ed : Int32) (a1 a2 a3 a4 a6 a7 : Nat → Int32) (M : Int → Prop) : Prop :=
  ∀ (fl : Int) (qf qs oc : Int32) (a5 a8 a9 a10 a11 a12 a13 a14 a15 a16 a17 a18 a19 : Nat → Int32), M fl → post (pr, so, sk, ed, fs_i fl, qf, qs, oc, a1, a2, a3, a4, a5, a6, a7, a8, a9, a10, a11, a12, a13, a14, a15, a16, a17, a18, a19)
def fs_tr (m : Int) (E : Int → Int) (s : Int) (V C : Int → Int) : Prop :=
  ∀ x, 0 ≤ x → x < 16 → 0 ≤ V x → x ≠ s → 0 ≤ C x ∧ C x < m ∧ E (C x) = x ∧ 0 ≤ V (E (fs_x (C x))) ∧ V x = V (E (fs_x (C x))) + 1
theorem fs_bp_tr {m least s : Int} {E L V C : Int → Int} {ou : Int → List Int} (h : fs_bp m least E L ou s V C) : fs_tr m E s V C := fun x x0 x1 hx xs => by
  have a := h.2.2.1 x x0 x1 hx xs
  exact ⟨a.1, a.2.1, a.2.2.1, a.2.2.2.1, a.2.2.2.2.1⟩
theorem fs_bp_cl {m s t : Int} {E L V C : Int → Int} {ou : Int → List Int} (h : fs_bp m 1 E L ou s V C) (ht : V t < 0) : fs_cl1 E L ou s t :=
  ⟨fun x => 0 ≤ V x, (by show 0 ≤ V s; rw [h.2.1]; exact Int.le_refl _), (by show ¬ 0 ≤ V t; omega), fun x x0 x1 hx e he hl => h.2.2.2 x x0 x1 hx e he hl⟩
/-- the way back from a node to s -/
def fs_pw (E C : Int → Int) (s : Int) : List Int → Int → Prop | [], x => x = s | y :: l, x => y = x ∧ x ≠ s ∧ fs_pw E C s l (E (fs_x (C x)))
section
variable {m s t : Int} {E F N V C K Cn : Int → Int} {ou : Int → List Int}
theorem fs_pw_ex (hn : fs_net m E F N ou) (h : fs_tr m E s V C) : ∀ (k : Nat) (x : Int), 0 ≤ x → x < 16 → 0 ≤ V x → V x < k → ∃ l, fs_pw E C s l x := by
  intro k
  induction k with
  | zero => intro x x0 x1 hx hk; omega
  | succ k ih =>
    intro x x0 x1 hx hk
    by_cases g : x = s
    · exact ⟨[], g⟩
    · have a := h x x0 x1 hx g
      have b := fs_net_fr hn a.1 a.2.1
      obtain ⟨l, hl⟩ := ih (E (fs_x (C x))) b.1 b.2.1 a.2.2.2.1 (by omega)
      exact ⟨x :: l, rfl, g, hl⟩
theorem fs_pw_v (hn : fs_net m E F N ou) (h : fs_tr m E s V C) {l : List Int} : ∀ {x : Int}, 0 ≤ x → x < 16 → 0 ≤ V x → fs_pw E C s l x → ∀ y, y ∈ l → 0 ≤ y ∧ y < 16 ∧ 0 ≤ V y ∧ y ≠ s ∧ V y ≤ V x := by
  induction l with
  | nil => intro x _ _ _ _ y hy; cases hy
  | cons z l ih =>
    intro x x0 x1 hx hp y hy
    have a := h x x0 x1 hx hp.2.1
    have b := fs_net_fr hn a.1 a.2.1
    rcases List.mem_cons.mp hy with g | g
    · rw [g, hp.1]
      exact ⟨x0, x1, hx, hp.2.1, Int.le_refl _⟩
    · have c := ih b.1 b.2.1 a.2.2.2.1 hp.2.2 y g
      exact ⟨c.1, c.2.1, c.2.2.1, c.2.2.2.1, by omega⟩
end
section
variable {m s t : Int} {E F N L V C K Cn : Int → Int} {ou : Int → List Int} {post : St2 → Prop} {pr so sk ed fw qf qs oc : Int32} {a1 a2 a3 a4 a5 a6 a7 a8 a9 a10 a11 a12 a13 a14 a15 a16 a17 a18 a19 : Nat → Int32}
theorem fs_fw_69 {A fl : Int} (hn : fs_net m E F N ou) (htr : fs_tr m E s V C) (s0 : 0 ≤ s) (s1 : s < 16) (hA : 1 ≤ A)
    (H : ∀ L', fs_vf m s t K L' ou Cn (fl + A) → post (pr, fs_i s, fs_i t, ed, fs_i (fl + A), qf, qs, oc, a1, a2, a3, fs_a E, fs_a L', fs_a F, fs_a N, a8, a9, fs_a C, a11, a12, a13, a14, a15, a16, a17, a18, a19)) :
    ∀ (n : Nat) (l : List Int) (x : Int) (L : Int → Int), 0 ≤ x → x < 16 → 0 ≤ V x → fs_pw E C s l x → (∀ y, y ∈ l → A ≤ L (C y)) → fs_lp m K L → (∀ u, 0 ≤ u → u < 16 → u ≠ t → fs_m L (ou u) = Cn u - (if u = s then fl else 0) - (if u = x then A else 0)) → s ≠ t → l.length < n →
      wX_fillWay_69 post (fs_i A) n (fs_i x) pr (fs_i s) (fs_i t) ed (fs_i fl) qf qs oc a1 a2 a3 (fs_a E) (fs_a L) (fs_a F) (fs_a N) a8 a9 (fs_a C) a11 a12 a13 a14 a15 a16 a17 a18 a19 := by
  intro n
  induction n with
  | zero => intro l x L _ _ _ _ _ _ _ _ h; omega
  | succ n ih =>
    intro l x L x0 x1 hx hp hr hk hsum st hl
    unfold wX_fillWay_69
    cases l with
    | nil =>
      have e : x = s := hp
      subst e
      refine fs_eq x x (fun _ => nm_r (fs_add fl A) (H L ⟨hk, fun u u0 u1 ut => ?_⟩)) (fun g => absurd rfl g)
      have a := hsum u u0 u1 ut
      split at a <;> split <;> omega
    | cons z l =>
      have a := htr x x0 x1 hx hp.2.1
      have b := fs_net_fr hn a.1 a.2.1
      have c := fs_net_x hn a.1 a.2.1
      have hm := fs_net_m hn
      have hzx : z = x := hp.1
      subst hzx
      rw [List.length_cons] at hl
      refine fs_eq z s (fun g => absurd g hp.2.1) (fun _ => ⟨fs_in x0 (by omega), ?_⟩)
      refine fs_move (e := C z) (x := A) a.1 (by omega) ?_ (fs_rd x0 (by omega)) rfl
      refine ⟨fs_in x0 (by omega), ?_⟩
      rw [fs_rd x0 (by omega), fs_xor a.1 (by omega)]
      refine ⟨fs_in c.1 (by omega), nm_r (fs_rd c.1 (by omega)) ?_⟩
      have hz := hr z List.mem_cons_self
      refine ih l _ (fs_mv L (C z) A) b.1 b.2.1 a.2.2.2.1 hp.2.2 (fun y hy => ?_) (fs_mv_lp hn hk a.1 a.2.1 (by omega) hz) (fun u u0 u1 ut => ?_) st (by omega)
      · have hy2 := fs_pw_v hn htr b.1 b.2.1 a.2.2.2.1 hp.2.2 y hy
        have ty := htr y hy2.1 hy2.2.1 hy2.2.2.1 hy2.2.2.2.1
        rw [fs_mv_o]
        · exact hr y (List.mem_cons_of_mem _ hy)
        · intro w
          have e1 := ty.2.2.1
          rw [w, a.2.2.1] at e1
          rw [← e1] at hy2
          omega
        · intro w
          have e1 := ty.2.2.2.2
          rw [w, fs_xx, a.2.2.1] at e1
          omega
      · have d := hsum u u0 u1 ut
        rw [fs_mv_m hn a.1 a.2.1 u0 u1, d, a.2.2.1]
        have g0 := (fs_net_to hn a.1 a.2.1).2.2.1
        rw [a.2.2.1] at g0
        split <;> split <;> split <;> omega
theorem fs_fw_8 (hn : fs_net m E F N ou) (hk : fs_lp m K L) (htr : fs_tr m E s V C) (hL : ∀ x, 0 ≤ x → x < 16 → 0 ≤ V x → x ≠ s → 1 ≤ L (C x)) (s0 : 0 ≤ s) (s1 : s < 16) :
    ∀ (n : Nat) (l : List Int) (x A : Int), 0 ≤ x → x < 16 → 0 ≤ V x → fs_pw E C s l x → 1 ≤ A → A ≤ 1048576 → l.length < n → (∀ A', 1 ≤ A' → A' ≤ A → (∀ y, y ∈ l → A' ≤ L (C y)) → ∃ fu, wX_fillWay_69 post (fs_i A') fu (fs_i t) pr (fs_i s) (fs_i t) ed fw qf qs oc a1 a2 a3 (fs_a E) (fs_a L) (fs_a F) (fs_a N) a8 a9 (fs_a C) a11 a12 a13 a14 a15 a16 a17 a18 a19) →
      wX_fillWay_8 post pr (fs_i s) (fs_i t) ed fw qf qs oc a1 a2 a3 (fs_a E) (fs_a L) (fs_a F) (fs_a N) a8 a9 (fs_a C) a11 a12 a13 a14 a15 a16 a17 a18 a19 n (fs_i A) (fs_i x) := by
  intro n
  induction n with
  | zero => intro l x A _ _ _ _ _ _ h; omega
  | succ n ih =>
    intro l x A x0 x1 hx hp hA hA2 hl H
    unfold wX_fillWay_8
    cases l with
    | nil =>
      have e : x = s := hp
      subst e
      exact fs_eq x x (fun _ => H A hA (Int.le_refl _) (fun y hy => by cases hy)) (fun g => absurd rfl g)
    | cons z l =>
      have a := htr x x0 x1 hx hp.2.1
      have b := fs_net_fr hn a.1 a.2.1
      have c := fs_net_x hn a.1 a.2.1
      have hm := fs_net_m hn
      have hzx : z = x := hp.1
      subst hzx
      rw [List.length_cons] at hl
      have hb := fs_lp_b hn hk a.1 a.2.1
      have hl1 := hL z x0 x1 hx hp.2.1
      have go : ∀ A', 1 ≤ A' → A' ≤ A → A' ≤ L (C z) → wX_fillWay_46 post (wX_fillWay_8 post pr (fs_i s) (fs_i t) ed fw qf qs oc a1 a2 a3 (fs_a E) (fs_a L) (fs_a F) (fs_a N) a8 a9 (fs_a C) a11 a12 a13 a14 a15 a16 a17 a18 a19 n) (fs_i z) (fs_i A') pr (fs_i s) (fs_i t) ed fw qf qs oc a1 a2 a3 (fs_a E) (fs_a L) (fs_a F) (fs_a N) a8 a9 (fs_a C) a11 a12 a13 a14 a15 a16 a17 a18 a19 := by
        intro A' h1 h2 h3
        unfold wX_fillWay_46
        rw [fs_rd x0 (by omega), fs_xor a.1 (by omega)]
        refine ⟨fs_in x0 (by omega), fs_in c.1 (by omega), nm_r (fs_rd c.1 (by omega)) ?_⟩
        refine ih l _ A' b.1 b.2.1 a.2.2.2.1 hp.2.2 h1 (by omega) (by omega) (fun A2 g1 g2 g3 => H A2 g1 (by omega) (fun y hy => ?_))
        rcases List.mem_cons.mp hy with w | w
        · rw [w]
          omega
        · exact g3 y w
      refine fs_eq z s (fun g => absurd g hp.2.1) (fun _ => ⟨fs_in x0 (by omega), ?_⟩)
      rw [fs_rd x0 (by omega)]
      refine ⟨fs_in a.1 (by omega), ?_⟩
      rw [fs_rd a.1 (by omega)]
      exact fs_le A (L (C z)) (fun g => go A hA (Int.le_refl _) g) (fun g => ⟨fs_in x0 (by omega), fs_in a.1 (by omega), go (L (C z)) hl1 (by omega) (Int.le_refl _)⟩)
theorem fs_fw {fl : Int} (hn : fs_net m E F N ou) (hv : fs_vf m s t K L ou Cn fl) (htr : fs_tr m E s V C) (hL : ∀ x, 0 ≤ x → x < 16 → 0 ≤ V x → x ≠ s → 1 ≤ L (C x)) (s0 : 0 ≤ s) (s1 : s < 16) (t0 : 0 ≤ t) (t1 : t < 16) (st : s ≠ t) (ht : 0 ≤ V t)
    (H : ∀ L' fl', fs_vf m s t K L' ou Cn fl' → fl < fl' → post (pr, fs_i s, fs_i t, ed, fs_i fl', qf, qs, oc, a1, a2, a3, fs_a E, fs_a L', fs_a F, fs_a N, a8, a9, fs_a C, a11, a12, a13, a14, a15, a16, a17, a18, a19)) :
    wpX_fillWay post (pr, fs_i s, fs_i t, ed, fs_i fl, qf, qs, oc, a1, a2, a3, fs_a E, fs_a L, fs_a F, fs_a N, a8, a9, fs_a C, a11, a12, a13, a14, a15, a16, a17, a18, a19) := by
  unfold wpX_fillWay
  dsimp only
  obtain ⟨l, hl⟩ := fs_pw_ex hn htr ((V t).toNat + 1) t t0 t1 ht (by omega)
  refine ⟨l.length + 1, fs_fw_8 hn hv.1 htr hL s0 s1 _ l t 1048576 t0 t1 ht hl (by omega) (by omega) (by omega) (fun A h1 h2 h3 => ⟨l.length + 1, ?_⟩)⟩
  refine fs_fw_69 hn htr s0 s1 h1 (fun L' h' => H L' _ h' (by omega)) _ l t L t0 t1 ht hl h3 hv.1 (fun u u0 u1 ut => ?_) st (by omega)
  rw [if_neg ut, hv.2 u u0 u1 ut]
  omega
theorem fs_vf_b {fl : Int} (hn : fs_net m E F N ou) (hv : fs_vf m s t K L ou Cn fl) (s0 : 0 ≤ s) (s1 : s < 16) (st : s ≠ t) : fl ≤ Cn s := by
  have a := hv.2 s s0 s1 st
  rw [if_pos rfl] at a
  have b := fs_m_b hn hv.1 s0 s1
  omega
/-- engine 0 -/
theorem fs_e0_0 (hn : fs_net m E F N ou) (s0 : 0 ≤ s) (s1 : s < 16) (t0 : 0 ≤ t) (t1 : t < 16) (st : s ≠ t)
    (H : fs_ok post pr (fs_i s) (fs_i t) ed a1 a2 a3 (fs_a E) (fs_a F) (fs_a N) (fs_mx m s t K E ou Cn)) :
    ∀ (n : Nat) (L V C Q D : Int → Int) (fl : Int) (qf qs : Int32), fs_vf m s t K L ou Cn fl → Cn s - fl < n →
      wX_solveByShortestWays_0 post n pr (fs_i s) (fs_i t) ed (fs_i fl) qf qs oc a1 a2 a3 (fs_a E) (fs_a L) (fs_a F) (fs_a N) (fs_a V) a9 (fs_a C) a11 a12 (fs_a Q) (fs_a D) a15 a16 a17 a18 a19 := by
  intro n
  induction n with
  | zero =>
    intro L V C Q D fl qf qs hv h
    have := fs_vf_b hn hv s0 s1 st
    omega
  | succ n ih =>
    intro L V C Q D fl qf qs hv h
    unfold wX_solveByShortestWays_0
    refine fs_fl (least := 1) hn hv.1 s0 s1 t0 t1 (by omega) (by omega) (fun rr V' C' f' r' Q' D' hb hr => ?_)
    rcases hr with ⟨e, g⟩ | ⟨e, g⟩
    · exact br_t e (H _ _ _ _ _ _ _ _ _ _ _ _ _ _ _ _ _ ⟨L, hv, fs_bp_cl hb g⟩)
    · refine br_f (by rw [e]; decide) (fs_fw hn hv (fs_bp_tr hb) (fun x x0 x1 hx xs => (hb.2.2.1 x x0 x1 hx xs).2.2.2.2.2) s0 s1 t0 t1 st g (fun L' fl' hv' hlt => ?_))
      exact ih L' V' C' Q' D' fl' _ _ hv' (by omega)
theorem fs_e0 {L0 : Int → Int} (hn : fs_net m E F N ou) (s0 : 0 ≤ s) (s1 : s < 16) (t0 : 0 ≤ t) (t1 : t < 16) (st : s ≠ t) (hv : fs_vf m s t K L0 ou Cn 0)
    (H : fs_ok post pr (fs_i s) (fs_i t) ed a1 a2 a3 (fs_a E) (fs_a F) (fs_a N) (fs_mx m s t K E ou Cn)) :
    wpX_solveByShortestWays post (pr, fs_i s, fs_i t, ed, fs_i 0, qf, qs, oc, a1, a2, a3, fs_a E, fs_a L0, fs_a F, fs_a N, a8, a9, a10, a11, a12, a13, a14, a15, a16, a17, a18, a19) := by
  unfold wpX_solveByShortestWays
  dsimp only
  obtain ⟨V, rfl⟩ := fs_all a8
  obtain ⟨C, rfl⟩ := fs_all a10
  obtain ⟨Q, rfl⟩ := fs_all a13
  obtain ⟨D, rfl⟩ := fs_all a14
  exact ⟨(Cn s).toNat + 1, fs_e0_0 hn s0 s1 t0 t1 st H _ L0 V C Q D 0 qf qs hv (by omega)⟩
/-- engine 4 -/
theorem fs_hlf {k : Int} (h : 0 ≤ k) (h1 : k < 1000) : fs_i k / 2 = fs_i (k / 2) := by
  have a := pk_div (a := k.toNat) (d := 2) (by omega) (by omega) (by omega)
  rw [fs_nI, fs_nI, Int.toNat_of_nonneg h] at a
  rw [show (k / 2) = ((k.toNat / 2 : Nat) : Int) by omega]
  exact a
theorem fs_e4_7 {J : Int32 → Int32 → Int32 → Int32 → Int32 → Int32 → Int32 → Int32 → Int32 → (Nat → Int32) → (Nat → Int32) → (Nat → Int32) → (Nat → Int32) → (Nat → Int32) → (Nat → Int32) → (Nat → Int32) → (Nat → Int32) → (Nat → Int32) → (Nat → Int32) → (Nat → Int32) → (Nat → Int32) → (Nat → Int32) → (Nat → Int32) → (Nat → Int32) → (Nat → Int32) → (Nat → Int32) → (Nat → Int32) → (Nat → Int32) → Prop} {k : Int}
    (hn : fs_net m E F N ou) (s0 : 0 ≤ s) (s1 : s < 16) (t0 : 0 ≤ t) (t1 : t < 16) (st : s ≠ t) (k0 : 1 ≤ k) (k1 : k < 1000)
    (HJ : ∀ (L V C Q D : Int → Int) (fl : Int) (qf qs : Int32), fs_vf m s t K L ou Cn fl → (k = 1 → fs_cl1 E L ou s t) → J (fs_i (k / 2)) pr (fs_i s) (fs_i t) ed (fs_i fl) qf qs oc a1 a2 a3 (fs_a E) (fs_a L) (fs_a F) (fs_a N) (fs_a V) a9 (fs_a C) a11 a12 (fs_a Q) (fs_a D) a15 a16 a17 a18 a19) :
    ∀ (n : Nat) (L V C Q D : Int → Int) (fl : Int) (qf qs : Int32), fs_vf m s t K L ou Cn fl → Cn s - fl < n →
      wX_solveByHalves_7 post J (fs_i k) n pr (fs_i s) (fs_i t) ed (fs_i fl) qf qs oc a1 a2 a3 (fs_a E) (fs_a L) (fs_a F) (fs_a N) (fs_a V) a9 (fs_a C) a11 a12 (fs_a Q) (fs_a D) a15 a16 a17 a18 a19 := by
  intro n
  induction n with
  | zero =>
    intro L V C Q D fl qf qs hv h
    have := fs_vf_b hn hv s0 s1 st
    omega
  | succ n ih =>
    intro L V C Q D fl qf qs hv h
    unfold wX_solveByHalves_7
    refine fs_fl (least := k) hn hv.1 s0 s1 t0 t1 (by omega) (by omega) (fun rr V' C' f' r' Q' D' hb hr => ?_)
    rcases hr with ⟨e, g⟩ | ⟨e, g⟩
    · refine br_t e ⟨by decide, nm_r (fs_hlf (by omega) (by omega)) (HJ L V' C' Q' D' fl _ _ hv (fun k1 => ?_))⟩
      subst k1
      exact fs_bp_cl hb g
    · refine br_f (by rw [e]; decide) (fs_fw hn hv (fs_bp_tr hb) (fun x x0 x1 hx xs => ?_) s0 s1 t0 t1 st g (fun L' fl' hv' hlt => ?_))
      · have := (hb.2.2.1 x x0 x1 hx xs).2.2.2.2.2
        omega
      · exact ih L' V' C' Q' D' fl' _ _ hv' (by omega)
theorem fs_e4_3 (hn : fs_net m E F N ou) (s0 : 0 ≤ s) (s1 : s < 16) (t0 : 0 ≤ t) (t1 : t < 16) (st : s ≠ t)
    (H : fs_ok post pr (fs_i s) (fs_i t) ed a1 a2 a3 (fs_a E) (fs_a F) (fs_a N) (fs_mx m s t K E ou Cn)) :
    ∀ (n : Nat) (k : Int) (L V C Q D : Int → Int) (fl : Int) (qf qs : Int32), 0 ≤ k → k < 1000 → k < n → fs_vf m s t K L ou Cn fl → (k = 0 → fs_cl1 E L ou s t) →
      wX_solveByHalves_3 post n (fs_i k) pr (fs_i s) (fs_i t) ed (fs_i fl) qf qs oc a1 a2 a3 (fs_a E) (fs_a L) (fs_a F) (fs_a N) (fs_a V) a9 (fs_a C) a11 a12 (fs_a Q) (fs_a D) a15 a16 a17 a18 a19 := by
  intro n
  induction n with
  | zero => intro k L V C Q D fl qf qs k0 k1 kn; omega
  | succ n ih =>
    intro k L V C Q D fl qf qs k0 k1 kn hv hc
    unfold wX_solveByHalves_3
    refine fs_le k 0 (fun g => H _ _ _ _ _ _ _ _ _ _ _ _ _ _ _ _ _ ⟨L, hv, hc (by omega)⟩) (fun g => ⟨(Cn s - fl).toNat + 1, ?_⟩)
    exact fs_e4_7 hn s0 s1 t0 t1 st (by omega) k1 (fun L' V' C' Q' D' fl' qf' qs' hv' hc' => ih (k / 2) L' V' C' Q' D' fl' qf' qs' (by omega) (by omega) (by omega) hv' (fun g2 => hc' (by omega))) _ L V C Q D fl qf qs hv (by omega)
theorem fs_e4 {L0 : Int → Int} (hn : fs_net m E F N ou) (s0 : 0 ≤ s) (s1 : s < 16) (t0 : 0 ≤ t) (t1 : t < 16) (st : s ≠ t) (hv : fs_vf m s t K L0 ou Cn 0)
    (H : fs_ok post pr (fs_i s) (fs_i t) ed a1 a2 a3 (fs_a E) (fs_a F) (fs_a N) (fs_mx m s t K E ou Cn)) :
    wpX_solveByHalves post (pr, fs_i s, fs_i t, ed, fs_i 0, qf, qs, oc, a1, a2, a3, fs_a E, fs_a L0, fs_a F, fs_a N, a8, a9, a10, a11, a12, a13, a14, a15, a16, a17, a18, a19) := by
  unfold wpX_solveByHalves
  dsimp only
  obtain ⟨V, rfl⟩ := fs_all a8
  obtain ⟨C, rfl⟩ := fs_all a10
  obtain ⟨Q, rfl⟩ := fs_all a13
  obtain ⟨D, rfl⟩ := fs_all a14
  exact ⟨65, fs_e4_3 hn s0 s1 t0 t1 st H 65 64 L0 V C Q D 0 qf qs (by omega) (by omega) (by omega) hv (fun g => absurd g (by omega))⟩
end
end
section
/-! part 05: engine 1, all ways of one length first -/
section
variable {E L V : Int → Int} {pr so sk ed fw qf qs oc : Int32} {a1 a2 a3 a4 a5 a6 a7 a8 a9 a10 a11 a12 a13 a14 a15 a16 a17 a18 a19 : Nat → Int32}
theorem fs_lead {post : Int32 → Prop} {u e : Int} {p0 p1 : Int32} (e0 : 0 ≤ e) (e1 : e < 56) (v0 : 0 ≤ E e) (v1 : E e < 16) (u0 : 0 ≤ u) (u1 : u < 16) (l0 : 0 ≤ L e) (l1 : L e < 1000) (b0 : -2 < V u) (b1 : V u < 1000) (c0 : -2 < V (E e)) (c1 : V (E e) < 1000)
    (H1 : 1 ≤ L e → V (E e) = V u + 1 → post 1) (H0 : ¬ (1 ≤ L e ∧ V (E e) = V u + 1) → post 0) (hp : p0 = fs_i u := by rfl) (hq : p1 = fs_i e := by rfl) : wpX_leadsOn post (pr, so, sk, ed, fw, qf, qs, oc, a1, a2, a3, fs_a E, fs_a L, a6, a7, fs_a V, a9, a10, a11, a12, a13, a14, a15, a16, a17, a18, a19) p0 p1 := by
  subst hp hq
  unfold wpX_leadsOn
  dsimp only
  rw [fs_rd (L := L) e0 (by omega), fs_rd (L := E) e0 (by omega), fs_rd (L := V) u0 (by omega), fs_rd (L := V) v0 (by omega), fs_p1]
  refine ⟨fs_in e0 (by omega), fs_le (L e) 0 (fun g => H0 (fun z => by omega)) (fun g => ⟨fs_in e0 (by omega), fs_in v0 (by omega), fs_in u0 (by omega), ?_⟩)⟩
  exact fs_eq (V (E e)) (V u + 1) (fun g2 => H1 (by omega) g2) (fun g2 => H0 (fun z => g2 z.2))
end
/-- a path of d edges from s, its nodes W 0 .. W d on the levels 0 .. d -/
def fs_pt (m : Int) (E V : Int → Int) (s : Int) (P W : Int → Int) (d : Int) : Prop :=
  W 0 = s ∧ (∀ i, 0 ≤ i → i < d → 0 ≤ P i ∧ P i < m ∧ E (fs_x (P i)) = W i ∧ E (P i) = W (i + 1)) ∧ (∀ i, 0 ≤ i → i ≤ d → V (W i) = i ∧ 0 ≤ W i ∧ W i < 16)
theorem fs_pt_ne {m s d : Int} {E V P W : Int → Int} (h : fs_pt m E V s P W d) {i j : Int} (i0 : 0 ≤ i) (i1 : i < d) (j0 : 0 ≤ j) (j1 : j < d) (hn : j ≠ i) : P j ≠ P i ∧ P j ≠ fs_x (P i) := by
  have a := h.2.1 i i0 i1
  have b := h.2.1 j j0 j1
  have vi := h.2.2 i i0 (by omega)
  have vj := h.2.2 j j0 (by omega)
  have vi1 := h.2.2 (i + 1) (by omega) (by omega)
  have vj1 := h.2.2 (j + 1) (by omega) (by omega)
  refine ⟨fun z => hn ?_, fun z => hn ?_⟩
  · have e1 := b.2.2.1
    rw [z, a.2.2.1] at e1
    rw [← e1] at vj
    omega
  · have e1 := b.2.2.1
    rw [z, fs_xx, a.2.2.2] at e1
    have e2 := b.2.2.2
    rw [z, a.2.2.1] at e2
    rw [← e1] at vj
    rw [← e2] at vj1
    omega
section
variable {m s t : Int} {E F N V K Cn P W : Int → Int} {ou : Int → List Int} {post : Int32 → St2 → Prop} {pr so sk ed fw qf qs oc : Int32} {a1 a2 a3 a4 a5 a6 a7 a8 a9 a10 a11 a12 a13 a14 a15 a16 a17 a18 a19 : Nat → Int32}
theorem fs_fp_54 {A fl d : Int} (hn : fs_net m E F N ou) (hpt : fs_pt m E V s P W d) (hd : d ≤ 16) (hA : 1 ≤ A) (hA2 : A ≤ 99)
    (H : ∀ (k : Int) (L' : Int → Int), 0 ≤ k → k < d → fs_vf m s t K L' ou Cn (fl + A) → (∀ i, 0 ≤ i → i < k → 1 ≤ L' (P i)) → post (fs_i k) (pr, fs_i s, fs_i t, ed, fs_i (fl + A), qf, qs, oc, a1, a2, a3, fs_a E, fs_a L', fs_a F, fs_a N, fs_a V, a9, a10, a11, a12, a13, a14, fs_a P, a16, a17, a18, a19)) :
    ∀ (n : Nat) (k i : Int) (L : Int → Int), -1 ≤ i → i < d → i < k → k ≤ d → fs_lp m K L → (∀ j, 0 ≤ j → j ≤ i → A ≤ L (P j)) → (∀ j, i < j → j < k → 1 ≤ L (P j)) → ((∃ j, 0 ≤ j ∧ j ≤ i ∧ L (P j) = A) ∨ k < d) →
      (∀ u, 0 ≤ u → u < 16 → u ≠ t → fs_m L (ou u) = Cn u - (if u = s then fl else 0) - (if u = W (i + 1) then A else 0)) → i + 1 < n →
      wX_fillPath_54 post (fs_i A) n (fs_i k) (fs_i i) pr (fs_i s) (fs_i t) ed (fs_i fl) qf qs oc a1 a2 a3 (fs_a E) (fs_a L) (fs_a F) (fs_a N) (fs_a V) a9 a10 a11 a12 a13 a14 (fs_a P) a16 a17 a18 a19 := by
  intro n
  induction n with
  | zero => intro k i L i0 _ _ _ _ _ _ _ _ h; omega
  | succ n ih =>
    intro k i L i0 i1 ik kd hlp hr hf hex hsum hl
    unfold wX_fillPath_54
    refine fs_lt i 0 (fun g => nm_r (fs_add fl A) (H k L (by omega) ?_ ⟨hlp, fun u u0 u1 ut => ?_⟩ (fun j j0 jk => hf j (by omega) jk))) (fun g => ⟨fs_in g (by omega), ?_⟩)
    · rcases hex with ⟨j, j0, j1, _⟩ | h
      · omega
      · exact h
    · have a := hsum u u0 u1 ut
      rw [show i + 1 = 0 by omega, hpt.1] at a
      split at a <;> split <;> omega
    · have a := hpt.2.1 i g i1
      have hm := fs_net_m hn
      have hb := fs_lp_b hn hlp a.1 a.2.1
      have hz := hr i g (Int.le_refl _)
      have hlp' := fs_mv_lp hn hlp a.1 a.2.1 (x := A) (by omega) hz
      have sum' : ∀ u, 0 ≤ u → u < 16 → u ≠ t → fs_m (fs_mv L (P i) A) (ou u) = Cn u - (if u = s then fl else 0) - (if u = W (i - 1 + 1) then A else 0) := by
        intro u u0 u1 ut
        have d2 := hsum u u0 u1 ut
        rw [fs_mv_m hn a.1 a.2.1 u0 u1, d2, a.2.2.1, a.2.2.2, show i - 1 + 1 = i by omega]
        have g0 := (fs_net_to hn a.1 a.2.1).2.2.1
        rw [a.2.2.1, a.2.2.2] at g0
        split <;> split <;> split <;> omega
      have keep : ∀ j, 0 ≤ j → j < d → j ≠ i → fs_mv L (P i) A (P j) = L (P j) := fun j j0 j1 jn => by
        have w := fs_pt_ne hpt g i1 j0 j1 jn
        exact fs_mv_o w.1 w.2
      refine fs_move (e := P i) (x := A) a.1 (by omega) ?_ (fs_rd g (by omega)) rfl
      refine ⟨fs_in g (by omega), ?_⟩
      rw [fs_rd (L := P) g (by omega)]
      refine ⟨fs_in a.1 (by omega), ?_⟩
      rw [fs_rd (L := fs_mv L (P i) A) a.1 (by omega), fs_mv_e]
      refine fs_eq (L (P i) - A) 0 (fun g2 => nm_r (fs_m1' i) ?_) (fun g2 => nm_r (fs_m1' i) ?_)
      · exact ih i (i - 1) _ (by omega) (by omega) (by omega) (by omega) hlp' (fun j j0 j1 => by rw [keep j j0 (by omega) (by omega)]; exact hr j j0 (by omega)) (fun j j0 j1 => by omega) (Or.inr i1) sum' (by omega)
      · refine ih k (i - 1) _ (by omega) (by omega) (by omega) (by omega) hlp' (fun j j0 j1 => by rw [keep j j0 (by omega) (by omega)]; exact hr j j0 (by omega)) (fun j j0 j1 => ?_) ?_ sum' (by omega)
        · by_cases c : j = i
          · rw [c, fs_mv_e]
            omega
          · rw [keep j (by omega) (by omega) c]
            exact hf j (by omega) j1
        · rcases hex with ⟨j, j0, j1, je⟩ | h
          · have c : j ≠ i := fun z => by rw [z] at je; omega
            exact Or.inl ⟨j, j0, by omega, by rw [keep j j0 (by omega) c]; exact je⟩
          · exact Or.inr h
theorem fs_fp_5 {L : Int → Int} {d : Int} (hn : fs_net m E F N ou) (hlp : fs_lp m K L) (hpt : fs_pt m E V s P W d) (hd0 : 1 ≤ d) (hd : d ≤ 16) (hL : ∀ i, 0 ≤ i → i < d → 1 ≤ L (P i))
    (H : ∀ A, 1 ≤ A → A ≤ 99 → (∀ i, 0 ≤ i → i < d → A ≤ L (P i)) → (∃ i, 0 ≤ i ∧ i < d ∧ L (P i) = A) → ∃ fu, wX_fillPath_54 post (fs_i A) fu (fs_i d) (fs_i (d - 1)) pr (fs_i s) (fs_i t) ed fw qf qs oc a1 a2 a3 (fs_a E) (fs_a L) (fs_a F) (fs_a N) (fs_a V) a9 a10 a11 a12 a13 a14 (fs_a P) a16 a17 a18 a19) :
    ∀ (n : Nat) (A i : Int), 0 ≤ i → i ≤ d → 1 ≤ A → A ≤ 1048576 → (∀ j, 0 ≤ j → j < i → A ≤ L (P j)) → (A = 1048576 ∨ ∃ j, 0 ≤ j ∧ j < d ∧ L (P j) = A) → d - i < n →
      wX_fillPath_5 post (fs_i d) pr (fs_i s) (fs_i t) ed fw qf qs oc a1 a2 a3 (fs_a E) (fs_a L) (fs_a F) (fs_a N) (fs_a V) a9 a10 a11 a12 a13 a14 (fs_a P) a16 a17 a18 a19 n (fs_i A) (fs_i i) := by
  intro n
  induction n with
  | zero => intro A i i0 i1 _ _ _ _ h; omega
  | succ n ih =>
    intro A i i0 i1 hA hA2 hr hex hl
    unfold wX_fillPath_5
    have hm := fs_net_m hn
    refine fs_le d i (fun g => nm_r (fs_m1 d) ?_) (fun g => ⟨fs_in i0 (by omega), ?_⟩)
    · have a := hpt.2.1 0 (by omega) (by omega)
      have hb := fs_lp_b hn hlp a.1 a.2.1
      have hz := hr 0 (by omega) (by omega)
      refine H A hA (by omega) (fun j j0 j1 => hr j j0 (by omega)) ?_
      rcases hex with h | h
      · omega
      · exact h
    · have a := hpt.2.1 i i0 g
      have hb := fs_lp_b hn hlp a.1 a.2.1
      have h1 := hL i i0 g
      rw [fs_rd (L := P) i0 (by omega)]
      refine ⟨fs_in a.1 (by omega), ?_⟩
      rw [fs_rd (L := L) a.1 (by omega)]
      refine fs_le A (L (P i)) (fun g2 => nm_r (fs_p1 i) (ih A (i + 1) (by omega) (by omega) hA hA2 (fun j j0 j1 => ?_) hex (by omega))) (fun g2 => ⟨fs_in i0 (by omega), fs_in a.1 (by omega), nm_e (nm_r (fs_p1 i) (ih (L (P i)) (i + 1) (by omega) (by omega) h1 (by omega) (fun j j0 j1 => ?_) (Or.inr ⟨i, i0, g, rfl⟩) (by omega)))⟩)
      · by_cases c : j = i
        · rw [c]
          exact g2
        · exact hr j j0 (by omega)
      · by_cases c : j = i
        · rw [c]
          exact Int.le_refl _
        · have := hr j j0 (by omega)
          omega
theorem fs_fp {L : Int → Int} {fl d : Int} (hn : fs_net m E F N ou) (hv : fs_vf m s t K L ou Cn fl) (hpt : fs_pt m E V s P W d) (hWt : W d = t) (hd0 : 1 ≤ d) (hd : d ≤ 16) (hL : ∀ i, 0 ≤ i → i < d → 1 ≤ L (P i))
    (H : ∀ (k A : Int) (L' : Int → Int), 0 ≤ k → k < d → 1 ≤ A → fs_vf m s t K L' ou Cn (fl + A) → (∀ i, 0 ≤ i → i < k → 1 ≤ L' (P i)) → post (fs_i k) (pr, fs_i s, fs_i t, ed, fs_i (fl + A), qf, qs, oc, a1, a2, a3, fs_a E, fs_a L', fs_a F, fs_a N, fs_a V, a9, a10, a11, a12, a13, a14, fs_a P, a16, a17, a18, a19)) :
    wpX_fillPath post (pr, fs_i s, fs_i t, ed, fs_i fl, qf, qs, oc, a1, a2, a3, fs_a E, fs_a L, fs_a F, fs_a N, fs_a V, a9, a10, a11, a12, a13, a14, fs_a P, a16, a17, a18, a19) (fs_i d) := by
  unfold wpX_fillPath
  dsimp only
  refine ⟨d.toNat + 1, fs_fp_5 hn hv.1 hpt hd0 hd hL (fun A h1 h2 h3 h4 => ⟨d.toNat + 1, ?_⟩) _ 1048576 0 (by omega) (by omega) (by omega) (by omega) (fun j j0 j1 => by omega) (Or.inl rfl) (by omega)⟩
  refine fs_fp_54 hn hpt hd h1 h2 (fun k L' k0 k1 hv' hk => H k A L' k0 k1 h1 hv' hk) _ d (d - 1) L (by omega) (by omega) (by omega) (by omega) hv.1 (fun j j0 j1 => h3 j j0 (by omega)) (fun j j0 j1 => by omega) (Or.inl ?_) (fun u u0 u1 ut => ?_) (by omega)
  · obtain ⟨i, i0, i1, ie⟩ := h4
    exact ⟨i, i0, by omega, ie⟩
  · rw [show d - 1 + 1 = d by omega, hWt, if_neg ut, hv.2 u u0 u1 ut]
    omega
end
theorem fs_cn_m {V : Int → Int} {v : Int} (h0 : 0 ≤ v) (h1 : v < 16) (h : 0 ≤ V v) : fs_cn (fs_u V v (-1)) = fs_cn V + 1 := by
  unfold fs_cn
  rw [fs_s_u (f := fun x => if V x < 0 then 1 else 0) (x := v) (k := 16) h0 (by omega) (fun j _ _ g => by rw [fs_un g])]
  rw [fs_us, if_neg (by omega), if_pos (by omega)]
  omega
theorem fs_cn_16 (V : Int → Int) : fs_cn V ≤ 16 := by
  have := fs_s_k (f := fun x => if V x < 0 then 1 else 0) (c := 1) (k := 16) (fun j _ _ => by split <;> omega)
  unfold fs_cn
  omega
def fs_ul (R : Int → List Int) (u : Int) (l : List Int) : Int → List Int := fun x => if x = u then l else R x
theorem fs_uls {R : Int → List Int} {u : Int} {l : List Int} : fs_ul R u l u = l := if_pos rfl
theorem fs_uln {R : Int → List Int} {u x : Int} {l : List Int} (h : x ≠ u) : fs_ul R u l x = R x := if_neg h
/-- the search on the levels V0 with rooms L0; R: what is left of each node's edges -/
def fs_di (m s t : Int) (E N K Cn V0 L0 : Int → Int) (ou : Int → List Int) (fl0 : Int) (L V G P W : Int → Int) (R : Int → List Int) (fl d : Int) : Prop :=
  fs_vf m s t K L ou Cn fl ∧ fs_pt m E V s P W d ∧ (∀ i, 0 ≤ i → i < d → 1 ≤ L (P i)) ∧
  (∀ x, 0 ≤ x → x < 16 → fs_ch N (R x) (G x) ∧ ∀ e, e ∈ R x → e ∈ ou x) ∧
  (∀ x, 0 ≤ x → x < 16 → V x = V0 x ∨ (V x = -1 ∧ R x = [] ∧ x ≠ t)) ∧
  (fl0 < fl ∨ (L = L0 ∧ ∀ x, 0 ≤ x → x < 16 → 0 ≤ V0 x → ∀ e, e ∈ ou x → e ∉ R x → ¬ (1 ≤ L0 e ∧ V (E e) = V0 x + 1))) ∧ fl0 ≤ fl
section
variable {m s t fl0 : Int} {E F N K Cn V0 C0 L0 : Int → Int} {ou : Int → List Int}
theorem fs_di_end {L V G P W : Int → Int} {R : Int → List Int} {fl d : Int} (hn : fs_net m E F N ou) (hb : fs_bp m 1 E L0 ou s V0 C0) (s0 : 0 ≤ s) (s1 : s < 16) (t0 : 0 ≤ t) (t1 : t < 16) (st : s ≠ t) (ht : 0 ≤ V0 t)
    (h : fs_di m s t E N K Cn V0 L0 ou fl0 L V G P W R fl d) (hs : R s = []) : fl0 < fl := by
  obtain ⟨_, _, _, _, b1, b2, _⟩ := h
  rcases b2 with h | ⟨_, b2⟩
  · exact h
  · exfalso
    have key : ∀ (k : Nat) (x : Int), 0 ≤ x → x < 16 → x ≠ s → 0 ≤ V0 x → V0 x < k → V x = V0 x → False := by
      intro k
      induction k with
      | zero => intro x _ _ _ _ _ _; omega
      | succ k ih =>
        intro x x0 x1 xs hx hk hv
        have a := hb.2.2.1 x x0 x1 hx xs
        have r := fs_net_fr hn a.1 a.2.1
        have o := (fs_net_to hn a.1 a.2.1).2.2.2
        have c : C0 x ∈ R (E (fs_x (C0 x))) := Classical.byContradiction (fun z => b2 _ r.1 r.2.1 a.2.2.2.1 _ o z ⟨a.2.2.2.2.2, by rw [a.2.2.1, hv]; exact a.2.2.2.2.1⟩)
        have ys : E (fs_x (C0 x)) ≠ s := fun z => by
          rw [z, hs] at c
          cases c
        refine ih (E (fs_x (C0 x))) r.1 r.2.1 ys a.2.2.2.1 (by omega) ?_
        rcases b1 _ r.1 r.2.1 with w | w
        · exact w
        · rw [w.2.1] at c
          cases c
    refine key ((V0 t).toNat + 1) t t0 t1 (fun z => st z.symm) ht (by omega) ?_
    rcases b1 t t0 t1 with w | w
    · exact w
    · exact absurd rfl w.2.2
end
section
variable {m s t fl0 : Int} {E F N K Cn V0 C0 L0 : Int → Int} {ou : Int → List Int} {post : St2 → Prop} {pr so sk ed fw qf qs oc : Int32} {a1 a2 a3 a4 a5 a6 a7 a8 a9 a10 a11 a12 a13 a14 a15 a16 a17 a18 a19 : Nat → Int32}
theorem fs_fL_64 {L V G P W : Int → Int} {R : Int → List Int} {fl d u : Int} {n : Nat} (hn : fs_net m E F N ou) (hb : fs_bp m 1 E L0 ou s V0 C0) (s0 : 0 ≤ s) (s1 : s < 16) (t0 : 0 ≤ t) (t1 : t < 16) (st : s ≠ t) (ht : 0 ≤ V0 t)
    (H : ∀ (L V G P : Int → Int) (fl : Int), fs_vf m s t K L ou Cn fl → fl0 < fl → post (pr, fs_i s, fs_i t, ed, fs_i fl, qf, qs, oc, a1, a2, a3, fs_a E, fs_a L, fs_a F, fs_a N, fs_a V, fs_a G, a10, a11, a12, a13, a14, fs_a P, a16, a17, a18, a19))
    (ih : ∀ (L V G P W : Int → Int) (R : Int → List Int) (fl d u : Int), fs_di m s t E N K Cn V0 L0 ou fl0 L V G P W R fl d → u = W d → 0 ≤ d → d ≤ 15 → 17 * (16 - fs_cn V + Cn s - fl) + 17 - d < n →
      wX_fillLevels_9 post n (fs_i d) (fs_i u) 1 pr (fs_i s) (fs_i t) ed (fs_i fl) qf qs oc a1 a2 a3 (fs_a E) (fs_a L) (fs_a F) (fs_a N) (fs_a V) (fs_a G) a10 a11 a12 a13 a14 (fs_a P) a16 a17 a18 a19)
    (h : fs_di m s t E N K Cn V0 L0 ou fl0 L V G P W R fl d) (hu : u = W d) (d0 : 0 ≤ d) (d1 : d ≤ 15) (hl : 17 * (16 - fs_cn V + Cn s - fl) + 17 - d < n + 1)
    (hx : u = t ∨ R u = [] ∨ ∃ e l, R u = e :: l ∧ 1 ≤ L e ∧ V (E e) = V u + 1) :
    wX_fillLevels_64 post (wX_fillLevels_9 post n) (fs_i d) (fs_i u) 1 pr (fs_i s) (fs_i t) ed (fs_i fl) qf qs oc a1 a2 a3 (fs_a E) (fs_a L) (fs_a F) (fs_a N) (fs_a V) (fs_a G) a10 a11 a12 a13 a14 (fs_a P) a16 a17 a18 a19 := by
  have hm := fs_net_m hn
  have h0 := h
  obtain ⟨hv, hpt, hPL, hR, b1, b2, hfl⟩ := h
  have hWd := hpt.2.2 d d0 (Int.le_refl _)
  rw [← hu] at hWd
  have hcn := fs_cn_16 V
  have hflb := fs_vf_b hn hv s0 s1 st
  unfold wX_fillLevels_64
  refine fs_eq u t (fun g => ?_) (fun g => ⟨fs_in hWd.2.1 (by omega), ?_⟩)
  · have hd1 : 1 ≤ d := by
      rcases Int.lt_or_le d 1 with z | z
      · have e0 : d = 0 := by omega
        rw [e0, hpt.1, g] at hu
        exact absurd hu.symm st
      · exact z
    refine fs_fp hn hv hpt (by rw [← hu, g]) hd1 (by omega) hPL (fun k A L' k0 k1 hA hv' hk => ?_)
    have a := hpt.2.1 k k0 k1
    have x := fs_net_x hn a.1 a.2.1
    refine ⟨fs_in k0 (by omega), ?_⟩
    rw [fs_rd (L := P) k0 (by omega), fs_xor a.1 (by omega)]
    refine ⟨fs_in x.1 (by omega), nm_r (fs_rd x.1 (by omega)) ?_⟩
    refine ih L' V G P W R (fl + A) k _ ⟨hv', ⟨hpt.1, fun i i0 i1 => hpt.2.1 i i0 (by omega), fun i i0 i1 => hpt.2.2 i i0 (by omega)⟩, hk, hR, b1, Or.inl (by omega), by omega⟩ a.2.2.1 k0 (by omega) (by omega)
  · have hRu := hR u hWd.2.1 hWd.2.2
    rw [fs_rd (L := G) hWd.2.1 (by omega)]
    rcases hx with z | z | ⟨e, l, z, z1, z2⟩
    · exact absurd z g
    · rw [z] at hRu
      have hG : G u = -1 := hRu.1
      rw [hG]
      refine fs_lt (-1) 0 (fun _ => ?_) (fun g2 => absurd g2 (by omega))
      refine fs_eq d 0 (fun g2 => ?_) (fun g2 => nm_r (fs_m1' d) ⟨fs_in hWd.2.1 (by omega), nm_r (e' := fs_a (fs_u V u (-1))) (fs_uq hWd.2.1 (by omega) (by decide)) ?_⟩)
      · cases n with
        | zero => omega
        | succ n =>
          unfold wX_fillLevels_9
          subst g2
          rw [hpt.1] at hu
          subst hu
          exact br_t rfl (H L V G P fl hv (fs_di_end hn hb s0 s1 t0 t1 st ht h0 z))
      · have a := hpt.2.1 (d - 1) (by omega) (by omega)
        have x := fs_net_x hn a.1 a.2.1
        refine ⟨fs_in (by omega) (by omega), ?_⟩
        rw [fs_rd (L := P) (e := d - 1) (by omega) (by omega), fs_xor a.1 (by omega)]
        refine ⟨fs_in x.1 (by omega), nm_r (fs_rd x.1 (by omega)) ?_⟩
        refine ih L (fs_u V u (-1)) G P W R fl (d - 1) _ ⟨hv, ⟨hpt.1, fun i i0 i1 => hpt.2.1 i i0 (by omega), fun i i0 i1 => ?_⟩, fun i i0 i1 => hPL i i0 (by omega), hR, fun x x0 x1 => ?_, ?_, hfl⟩ a.2.2.1 (by omega) (by omega) ?_
        · have w := hpt.2.2 i i0 (by omega)
          rw [fs_un (fun y => by rw [y, hWd.1] at w; omega)]
          exact w
        · by_cases c : x = u
          · rw [c, fs_us]
            exact Or.inr ⟨rfl, z, g⟩
          · rw [fs_un c]
            exact b1 x x0 x1
        · rcases b2 with w | ⟨w1, w2⟩
          · exact Or.inl w
          · refine Or.inr ⟨w1, fun x x0 x1 hx e he hne hh => w2 x x0 x1 hx e he hne ⟨hh.1, ?_⟩⟩
            by_cases c : E e = u
            · have w3 := hh.2
              rw [c, fs_us] at w3
              omega
            · have w3 := hh.2
              rw [fs_un c] at w3
              exact w3
        · rw [fs_cn_m hWd.2.1 hWd.2.2 (by omega)]
          omega
    · rw [z] at hRu
      have hG : G u = e := hRu.1.1
      have ho := hRu.2 e List.mem_cons_self
      have eo := fs_net_ou hn hWd.2.1 hWd.2.2 ho
      have et := fs_net_to hn eo.1 eo.2.1
      have hvb : V (E e) ≤ 15 := by
        have w1 := b1 (E e) et.1 et.2.1
        have w2 := hb.1 (E e) et.1 et.2.1
        omega
      rw [hG]
      refine fs_lt e 0 (fun g2 => absurd g2 (by omega)) (fun _ => ⟨fs_in hWd.2.1 (by omega), fs_in d0 (by omega), nm_r (e' := fs_a (fs_u P d e)) (by rw [fs_nb (by omega) (by omega), fs_up d0 (by omega)]) ⟨fs_in hWd.2.1 (by omega), fs_in eo.1 (by omega), nm_r (fs_rd eo.1 (by omega)) (nm_r (fs_p1 d) ?_)⟩⟩)
      refine ih L V G (fs_u P d e) (fs_u W (d + 1) (E e)) R fl (d + 1) _ ⟨hv, ⟨?_, fun i i0 i1 => ?_, fun i i0 i1 => ?_⟩, fun i i0 i1 => ?_, hR, b1, b2, hfl⟩ (by rw [fs_us]) (by omega) (by omega) (by omega)
      · rw [fs_un (by omega)]
        exact hpt.1
      · by_cases c : i = d
        · rw [c, fs_us, fs_us, fs_un (by omega), eo.2.2, hu]
          exact ⟨eo.1, eo.2.1, rfl, rfl⟩
        · rw [fs_un c, fs_un (by omega), fs_un (by omega)]
          exact hpt.2.1 i i0 (by omega)
      · by_cases c : i = d + 1
        · rw [c, fs_us]
          exact ⟨by omega, et.1, et.2.1⟩
        · rw [fs_un c]
          exact hpt.2.2 i i0 (by omega)
      · by_cases c : i = d
        · rw [c, fs_us]
          exact z1
        · rw [fs_un c]
          exact hPL i i0 (by omega)
theorem fs_fL_13 {L V P W : Int → Int} {fl d u : Int} {n : Nat} (hn : fs_net m E F N ou) (hb : fs_bp m 1 E L0 ou s V0 C0) (s0 : 0 ≤ s) (s1 : s < 16) (t0 : 0 ≤ t) (t1 : t < 16) (st : s ≠ t) (ht : 0 ≤ V0 t)
    (H : ∀ (L V G P : Int → Int) (fl : Int), fs_vf m s t K L ou Cn fl → fl0 < fl → post (pr, fs_i s, fs_i t, ed, fs_i fl, qf, qs, oc, a1, a2, a3, fs_a E, fs_a L, fs_a F, fs_a N, fs_a V, fs_a G, a10, a11, a12, a13, a14, fs_a P, a16, a17, a18, a19))
    (ih : ∀ (L V G P W : Int → Int) (R : Int → List Int) (fl d u : Int), fs_di m s t E N K Cn V0 L0 ou fl0 L V G P W R fl d → u = W d → 0 ≤ d → d ≤ 15 → 17 * (16 - fs_cn V + Cn s - fl) + 17 - d < n →
      wX_fillLevels_9 post n (fs_i d) (fs_i u) 1 pr (fs_i s) (fs_i t) ed (fs_i fl) qf qs oc a1 a2 a3 (fs_a E) (fs_a L) (fs_a F) (fs_a N) (fs_a V) (fs_a G) a10 a11 a12 a13 a14 (fs_a P) a16 a17 a18 a19)
    (hu : u = W d) (d0 : 0 ≤ d) (d1 : d ≤ 15) (hl : 17 * (16 - fs_cn V + Cn s - fl) + 17 - d < n + 1) :
    ∀ (k : Nat) (G : Int → Int) (R : Int → List Int), fs_di m s t E N K Cn V0 L0 ou fl0 L V G P W R fl d → (R u).length < k →
    wX_fillLevels_13 post (wX_fillLevels_9 post n) (fs_i d) (fs_i u) 1 pr (fs_i s) (fs_i t) ed (fs_i fl) qf qs oc k a1 a2 a3 (fs_a E) (fs_a L) (fs_a F) (fs_a N) (fs_a V) (fs_a G) a10 a11 a12 a13 a14 (fs_a P) a16 a17 a18 a19 := by
  intro k
  induction k with
  | zero => intro G R _ h; omega
  | succ k ihk =>
    intro G R h hk
    have hm := fs_net_m hn
    have h0 := h
    obtain ⟨hv, hpt, hPL, hR, b1, b2, hfl⟩ := h
    have hWd := hpt.2.2 d d0 (Int.le_refl _)
    rw [← hu] at hWd
    unfold wX_fillLevels_13
    refine fs_eq u t (fun g => fs_fL_64 hn hb s0 s1 t0 t1 st ht H ih h0 hu d0 d1 hl (Or.inl g)) (fun g => ⟨fs_in hWd.2.1 (by omega), ?_⟩)
    have hRu := hR u hWd.2.1 hWd.2.2
    rw [fs_rd (L := G) hWd.2.1 (by omega)]
    cases z : R u with
    | nil =>
      rw [z] at hRu
      have hG : G u = -1 := hRu.1
      rw [hG]
      exact fs_lt (-1) 0 (fun _ => fs_fL_64 hn hb s0 s1 t0 t1 st ht H ih h0 hu d0 d1 hl (Or.inr (Or.inl z))) (fun g2 => absurd g2 (by omega))
    | cons e l =>
      rw [z] at hRu hk
      rw [List.length_cons] at hk
      have hG : G u = e := hRu.1.1
      have ho := hRu.2 e List.mem_cons_self
      have eo := fs_net_ou hn hWd.2.1 hWd.2.2 ho
      have et := fs_net_to hn eo.1 eo.2.1
      have hlb := fs_lp_b hn hv.1 eo.1 eo.2.1
      have vb : ∀ x, 0 ≤ x → x < 16 → -2 < V x ∧ V x < 1000 := fun x x0 x1 => by
        have w1 := b1 x x0 x1
        have w2 := hb.1 x x0 x1
        omega
      have hN : -1 ≤ N e ∧ N e < 56 := by
        cases l with
        | nil =>
          have w : N e = -1 := hRu.1.2
          omega
        | cons e2 l2 =>
          have w : N e = e2 := hRu.1.2.1
          have w2 := fs_net_ou hn hWd.2.1 hWd.2.2 (hRu.2 e2 (List.mem_cons_of_mem _ List.mem_cons_self))
          omega
      rw [hG]
      refine fs_lt e 0 (fun g2 => absurd g2 (by omega)) (fun _ => ⟨fs_in hWd.2.1 (by omega), ?_⟩)
      refine fs_lead eo.1 (by omega) et.1 et.2.1 hWd.2.1 hWd.2.2 hlb.1 (by omega) (vb u hWd.2.1 hWd.2.2).1 (vb u hWd.2.1 hWd.2.2).2 (vb _ et.1 et.2.1).1 (vb _ et.1 et.2.1).2 (fun g2 g3 => ?_) (fun g2 => ?_)
      · have w := fs_fL_64 hn hb s0 s1 t0 t1 st ht H ih h0 hu d0 d1 hl (Or.inr (Or.inr ⟨e, l, z, g2, g3⟩))
        exact br_f (by decide) w
      · refine br_t rfl ⟨fs_in hWd.2.1 (by omega), fs_in eo.1 (by omega), fs_in hWd.2.1 (by omega), nm_r (e' := fs_a (fs_u G u (N e))) (by rw [fs_rd eo.1 (by omega), fs_nb (by omega) (by omega), fs_up hWd.2.1 (by omega)]) ?_⟩
        refine ihk (fs_u G u (N e)) (fs_ul R u l) ⟨hv, hpt, hPL, fun x x0 x1 => ?_, fun x x0 x1 => ?_, ?_, hfl⟩ ?_
        · by_cases c : x = u
          · rw [c, fs_us, fs_uls]
            exact ⟨hRu.1.2, fun y hy => hRu.2 y (List.mem_cons_of_mem _ hy)⟩
          · rw [fs_un c, fs_uln c]
            exact hR x x0 x1
        · have w := b1 x x0 x1
          by_cases c : x = u
          · rw [c] at w
            rw [c, fs_uls]
            rcases w with w | w
            · exact Or.inl w
            · rw [z] at w
              exact absurd w.2.1 (by simp)
          · rw [fs_uln c]
            exact w
        · rcases b2 with w | ⟨w1, w2⟩
          · exact Or.inl w
          · refine Or.inr ⟨w1, fun x x0 x1 hx y hy hne hh => ?_⟩
            by_cases c : x = u
            · rw [c, fs_uls] at hne
              by_cases c2 : y = e
              · rw [c2, c] at hh
                rw [w1] at g2
                have w3 := b1 u hWd.2.1 hWd.2.2
                rw [z] at w3
                rcases w3 with w3 | w3
                · rw [w3] at g2
                  exact g2 hh
                · exact absurd w3.2.1 (by simp)
              · refine w2 x x0 x1 hx y hy (fun v => ?_) hh
                rw [c, z] at v
                rcases List.mem_cons.mp v with v1 | v1
                · exact c2 v1
                · exact hne v1
            · rw [fs_uln c] at hne
              exact w2 x x0 x1 hx y hy hne hh
        · rw [fs_uls]
          omega
theorem fs_fL_9 (hn : fs_net m E F N ou) (hb : fs_bp m 1 E L0 ou s V0 C0) (s0 : 0 ≤ s) (s1 : s < 16) (t0 : 0 ≤ t) (t1 : t < 16) (st : s ≠ t) (ht : 0 ≤ V0 t)
    (H : ∀ (L V G P : Int → Int) (fl : Int), fs_vf m s t K L ou Cn fl → fl0 < fl → post (pr, fs_i s, fs_i t, ed, fs_i fl, qf, qs, oc, a1, a2, a3, fs_a E, fs_a L, fs_a F, fs_a N, fs_a V, fs_a G, a10, a11, a12, a13, a14, fs_a P, a16, a17, a18, a19)) :
    ∀ (n : Nat) (L V G P W : Int → Int) (R : Int → List Int) (fl d u : Int), fs_di m s t E N K Cn V0 L0 ou fl0 L V G P W R fl d → u = W d → 0 ≤ d → d ≤ 15 → 17 * (16 - fs_cn V + Cn s - fl) + 17 - d < n →
      wX_fillLevels_9 post n (fs_i d) (fs_i u) 1 pr (fs_i s) (fs_i t) ed (fs_i fl) qf qs oc a1 a2 a3 (fs_a E) (fs_a L) (fs_a F) (fs_a N) (fs_a V) (fs_a G) a10 a11 a12 a13 a14 (fs_a P) a16 a17 a18 a19 := by
  intro n
  induction n with
  | zero =>
    intro L V G P W R fl d u h _ d0 d1 hl
    have hcn := fs_cn_16 V
    have hflb := fs_vf_b hn h.1 s0 s1 st
    omega
  | succ n ih =>
    intro L V G P W R fl d u h hu d0 d1 hl
    unfold wX_fillLevels_9
    exact br_f (by decide) ⟨(R u).length + 1, fs_fL_13 hn hb s0 s1 t0 t1 st ht H ih hu d0 d1 (by omega) _ G R h (by omega)⟩
theorem fs_fL {V P : Int → Int} {G : Int → Int} (hn : fs_net m E F N ou) (hb : fs_bp m 1 E L0 ou s V0 C0) (s0 : 0 ≤ s) (s1 : s < 16) (t0 : 0 ≤ t) (t1 : t < 16) (st : s ≠ t) (ht : 0 ≤ V0 t) (hv : fs_vf m s t K L0 ou Cn fl0) (hG : ∀ x, 0 ≤ x → x < 16 → G x = F x)
    (H : ∀ (L V G P : Int → Int) (fl : Int), fs_vf m s t K L ou Cn fl → fl0 < fl → post (pr, fs_i s, fs_i t, ed, fs_i fl, qf, qs, oc, a1, a2, a3, fs_a E, fs_a L, fs_a F, fs_a N, fs_a V, fs_a G, a10, a11, a12, a13, a14, fs_a P, a16, a17, a18, a19)) :
    wpX_fillLevels post (pr, fs_i s, fs_i t, ed, fs_i fl0, qf, qs, oc, a1, a2, a3, fs_a E, fs_a L0, fs_a F, fs_a N, fs_a V0, fs_a G, a10, a11, a12, a13, a14, fs_a P, a16, a17, a18, a19) := by
  unfold wpX_fillLevels
  dsimp only
  refine ⟨(17 * (16 - fs_cn V0 + Cn s - fl0) + 17 - 0).toNat + 1, fs_fL_9 hn hb s0 s1 t0 t1 st ht H _ L0 V0 G P (fun _ => s) ou fl0 0 s ⟨hv, ⟨rfl, fun i i0 i1 => by omega, fun i i0 i1 => ?_⟩, fun i i0 i1 => by omega, fun x x0 x1 => ?_, fun x _ _ => Or.inl rfl, Or.inr ⟨rfl, fun x _ _ _ e he hne => absurd he hne⟩, Int.le_refl _⟩ rfl (by omega) (by omega) ?_⟩
  · have e : i = 0 := by omega
    rw [e]
    exact ⟨hb.2.1, s0, s1⟩
  · rw [hG x x0 x1]
    exact ⟨fs_net_ch hn x0 x1, fun e he => he⟩
  · have hcn := fs_cn_16 V0
    have hflb := fs_vf_b hn hv s0 s1 st
    omega
theorem fs_net_F (hn : fs_net m E F N ou) {x : Int} (x0 : 0 ≤ x) (x1 : x < 16) : -1 ≤ F x ∧ F x < 56 := by
  have a := fs_net_ch hn x0 x1
  have hm := fs_net_m hn
  cases z : ou x with
  | nil =>
    rw [z] at a
    have w : F x = -1 := a
    omega
  | cons e l =>
    rw [z] at a
    have w : F x = e := a.1
    have w2 := fs_net_ou hn x0 x1 (e := e) (by rw [z]; exact List.mem_cons_self)
    omega
theorem fs_e1_10 {J : Int32 → Int32 → Int32 → Int32 → Int32 → Int32 → Int32 → Int32 → (Nat → Int32) → (Nat → Int32) → (Nat → Int32) → (Nat → Int32) → (Nat → Int32) → (Nat → Int32) → (Nat → Int32) → (Nat → Int32) → (Nat → Int32) → (Nat → Int32) → (Nat → Int32) → (Nat → Int32) → (Nat → Int32) → (Nat → Int32) → (Nat → Int32) → (Nat → Int32) → (Nat → Int32) → (Nat → Int32) → (Nat → Int32) → Prop}
    (hn : fs_net m E F N ou) (H : ∀ G : Int → Int, (∀ x, 0 ≤ x → x < 16 → G x = F x) → wpX_fillLevels (fun u => match u with | (pr, so, sk, ed, fw, qf, qs, oc, a1, a2, a3, a4, a5, a6, a7, a8, a9, a10, a11, a12, a13, a14, a15, a16, a17, a18, a19) => J pr so sk ed fw qf qs oc a1 a2 a3 a4 a5 a6 a7 a8 a9 a10 a11 a12 a13 a14 a15 a16 a17 a18 a19) (pr, so, sk, ed, fw, qf, qs, oc, a1, a2, a3, a4, a5, fs_a F, a7, a8, fs_a G, a10, a11, a12, a13, a14, a15, a16, a17, a18, a19)) :
    ∀ (n : Nat) (k : Int) (G : Int → Int), 0 ≤ k → k ≤ 16 → (∀ x, 0 ≤ x → x < k → G x = F x) → 16 - k < n → wX_solveByLevels_10 post J pr so sk ed fw qf qs oc n (fs_i k) a1 a2 a3 a4 a5 (fs_a F) a7 a8 (fs_a G) a10 a11 a12 a13 a14 a15 a16 a17 a18 a19 := by
  intro n
  induction n with
  | zero => intro k G k0 k1 _ h; omega
  | succ n ih =>
    intro k G k0 k1 hG h
    unfold wX_solveByLevels_10
    refine fs_le 16 k (fun g => H G (fun x x0 x1 => hG x x0 (by omega))) (fun g => ⟨fs_in k0 (by omega), fs_in k0 (by omega), ?_⟩)
    have hF := fs_net_F hn k0 g
    refine nm_r (e' := fs_a (fs_u G k (F k))) (by rw [fs_rd k0 (by omega), fs_nb (by omega) (by omega), fs_up k0 (by omega)]) (nm_r (fs_p1 k) (ih (k + 1) _ (by omega) (by omega) (fun x x0 x1 => ?_) (by omega)))
    by_cases c : x = k
    · rw [c, fs_us]
    · rw [fs_un c]
      exact hG x x0 (by omega)
theorem fs_e1_0 (hn : fs_net m E F N ou) (s0 : 0 ≤ s) (s1 : s < 16) (t0 : 0 ≤ t) (t1 : t < 16) (st : s ≠ t)
    (H : fs_ok post pr (fs_i s) (fs_i t) ed a1 a2 a3 (fs_a E) (fs_a F) (fs_a N) (fs_mx m s t K E ou Cn)) :
    ∀ (n : Nat) (L V C Q D G P : Int → Int) (fl : Int) (qf qs : Int32), fs_vf m s t K L ou Cn fl → Cn s - fl < n →
      wX_solveByLevels_0 post n pr (fs_i s) (fs_i t) ed (fs_i fl) qf qs oc a1 a2 a3 (fs_a E) (fs_a L) (fs_a F) (fs_a N) (fs_a V) (fs_a G) (fs_a C) a11 a12 (fs_a Q) (fs_a D) (fs_a P) a16 a17 a18 a19 := by
  intro n
  induction n with
  | zero =>
    intro L V C Q D G P fl qf qs hv h
    have := fs_vf_b hn hv s0 s1 st
    omega
  | succ n ih =>
    intro L V C Q D G P fl qf qs hv h
    unfold wX_solveByLevels_0
    refine fs_fl (least := 1) hn hv.1 s0 s1 t0 t1 (by omega) (by omega) (fun rr V' C' f' r' Q' D' hb hr => ?_)
    rcases hr with ⟨e, g⟩ | ⟨e, g⟩
    · exact br_t e (H _ _ _ _ _ _ _ _ _ _ _ _ _ _ _ _ _ ⟨L, hv, fs_bp_cl hb g⟩)
    · refine br_f (by rw [e]; decide) ⟨17, fs_e1_10 hn (fun G' hG => ?_) 17 0 G (by omega) (by omega) (fun x x0 x1 => by omega) (by omega)⟩
      exact fs_fL (V := V') hn hb s0 s1 t0 t1 st g hv hG (fun L2 V2 G2 P2 fl2 hv2 hlt => ih L2 V2 C' Q' D' G2 P2 fl2 _ _ hv2 (by omega))
theorem fs_e1 (hn : fs_net m E F N ou) (s0 : 0 ≤ s) (s1 : s < 16) (t0 : 0 ≤ t) (t1 : t < 16) (st : s ≠ t) (hv : fs_vf m s t K L0 ou Cn 0)
    (H : fs_ok post pr (fs_i s) (fs_i t) ed a1 a2 a3 (fs_a E) (fs_a F) (fs_a N) (fs_mx m s t K E ou Cn)) :
    wpX_solveByLevels post (pr, fs_i s, fs_i t, ed, fs_i 0, qf, qs, oc, a1, a2, a3, fs_a E, fs_a L0, fs_a F, fs_a N, a8, a9, a10, a11, a12, a13, a14, a15, a16, a17, a18, a19) := by
  unfold wpX_solveByLevels
  dsimp only
  obtain ⟨V, rfl⟩ := fs_all a8
  obtain ⟨G, rfl⟩ := fs_all a9
  obtain ⟨C, rfl⟩ := fs_all a10
  obtain ⟨Q, rfl⟩ := fs_all a13
  obtain ⟨D, rfl⟩ := fs_all a14
  obtain ⟨P, rfl⟩ := fs_all a15
  exact ⟨(Cn s).toNat + 1, fs_e1_0 hn s0 s1 t0 t1 st H _ L0 V C Q D G P 0 qf qs hv (by omega)⟩
end
end
section
/-! part 06: engine 5, the weakest node: through, weakestNode -/
def fs_al (b e : Int) : Int := if b = 0 then e else fs_x e
def fs_sg (b : Int) : Int := if b = 0 then 1 else -1
def fs_wt (b : Int) (E L V Gn : Int → Int) (n e : Int) : Int := if 1 ≤ L (fs_al b e) ∧ V (E e) = V n + fs_sg b ∧ Gn (E e) = 0 then L (fs_al b e) else 0
def fs_io (b o : Int) (E L V Gn : Int → Int) (ou : Int → List Int) (n : Int) : Int := if n = o then 1048576 else fs_m (fs_wt b E L V Gn n) (ou n)
section
variable {m : Int} {E F N L V Gn K : Int → Int} {ou : Int → List Int}
theorem fs_al_b (hn : fs_net m E F N ou) {b e : Int} (e0 : 0 ≤ e) (e1 : e < m) : 0 ≤ fs_al b e ∧ fs_al b e < m := by
  unfold fs_al
  split
  · exact ⟨e0, e1⟩
  · exact fs_net_x hn e0 e1
theorem fs_wt_b (hn : fs_net m E F N ou) (hlp : fs_lp m K L) {b n e : Int} (e0 : 0 ≤ e) (e1 : e < m) : 0 ≤ fs_wt b E L V Gn n e ∧ fs_wt b E L V Gn n e ≤ 99 := by
  have a := fs_al_b (b := b) hn e0 e1
  have c := fs_lp_b hn hlp a.1 a.2
  unfold fs_wt
  split
  · exact c
  · omega
theorem fs_wm_b (hn : fs_net m E F N ou) (hlp : fs_lp m K L) (hlen : ∀ u, 0 ≤ u → u < 16 → (ou u).length ≤ 3) {b n : Int} (n0 : 0 ≤ n) (n1 : n < 16) : 0 ≤ fs_m (fs_wt b E L V Gn n) (ou n) ∧ fs_m (fs_wt b E L V Gn n) (ou n) ≤ 297 := by
  have hb : ∀ e, e ∈ ou n → 0 ≤ fs_wt b E L V Gn n e ∧ fs_wt b E L V Gn n e ≤ 99 := fun e he => fs_wt_b hn hlp (fs_net_ou hn n0 n1 he).1 (fs_net_ou hn n0 n1 he).2.1
  refine ⟨fs_m_0 (fun e he => (hb e he).1), ?_⟩
  have key : ∀ l : List Int, (∀ e, e ∈ l → 0 ≤ fs_wt b E L V Gn n e ∧ fs_wt b E L V Gn n e ≤ 99) → fs_m (fs_wt b E L V Gn n) l ≤ 99 * l.length := by
    intro l
    induction l with
    | nil => intro _; exact Int.le_refl _
    | cons x l ih =>
      intro hl
      unfold fs_m
      have a := hl x List.mem_cons_self
      have b := ih (fun y hy => hl y (List.mem_cons_of_mem _ hy))
      rw [List.length_cons]
      omega
  have k := key _ hb
  have k2 := hlen n n0 n1
  omega
end
section
variable {m : Int} {E F N L V Gn K : Int → Int} {ou : Int → List Int} {post : Int32 → Prop} {pr so sk ed fw qf qs oc : Int32} {a1 a2 a3 a4 a5 a6 a7 a8 a9 a10 a11 a12 a13 a14 a15 a16 a17 a18 a19 : Nat → Int32}
theorem fs_th_10 {n b : Int} (hn : fs_net m E F N ou) (hlp : fs_lp m K L) (hV : ∀ x, 0 ≤ x → x < 16 → -2 < V x ∧ V x < 1000) (hG : ∀ x, 0 ≤ x → x < 16 → Gn x = 0 ∨ Gn x = 1) (n0 : 0 ≤ n) (n1 : n < 16) (hb : b = 0 ∨ b = 1) :
    ∀ (k : Nat) (l : List Int) (e a : Int), fs_ch N l e → (∀ x, x ∈ l → x ∈ ou n) → l.length < k → post (fs_i (a + fs_m (fs_wt b E L V Gn n) l)) → wX_through_10 post (fs_i n) (fs_i b) pr so sk ed fw qf qs oc a1 a2 a3 (fs_a E) (fs_a L) (fs_a F) (fs_a N) (fs_a V) a9 a10 a11 a12 a13 a14 a15 (fs_a Gn) a17 a18 a19 k (fs_i a) (fs_i e) := by
  intro k
  induction k with
  | zero => intro l e a _ _ h; omega
  | succ k ih =>
    intro l e a hc hs hl H
    unfold wX_through_10
    cases l with
    | nil =>
      have he : e = -1 := hc
      subst he
      unfold fs_m at H
      rw [Int.add_zero] at H
      exact fs_lt (-1) 0 (fun _ => H) (fun g => absurd g (by omega))
    | cons x l =>
      have he : e = x := hc.1
      subst he
      rw [List.length_cons] at hl
      have hm := fs_net_m hn
      have eo := fs_net_ou hn n0 n1 (hs e List.mem_cons_self)
      have et := fs_net_to hn eo.1 eo.2.1
      have ex := fs_net_x hn eo.1 eo.2.1
      have hgb := hG (E e) et.1 et.2.1
      have vn := hV n n0 n1
      have vt := hV (E e) et.1 et.2.1
      have lb := fs_lp_b hn hlp eo.1 eo.2.1
      have lbx := fs_lp_b hn hlp ex.1 ex.2
      have rec0 : ∀ w, fs_wt b E L V Gn n e = w → wX_through_88 post (wX_through_10 post (fs_i n) (fs_i b) pr so sk ed fw qf qs oc a1 a2 a3 (fs_a E) (fs_a L) (fs_a F) (fs_a N) (fs_a V) a9 a10 a11 a12 a13 a14 a15 (fs_a Gn) a17 a18 a19 k) (fs_i n) (fs_i b) (fs_i e) (fs_i w) (fs_i a) pr so sk ed fw qf qs oc a1 a2 a3 (fs_a E) (fs_a L) (fs_a F) (fs_a N) (fs_a V) a9 a10 a11 a12 a13 a14 a15 (fs_a Gn) a17 a18 a19 := by
        intro w hw
        unfold wX_through_88
        refine nm_r (fs_add a w) ⟨fs_in eo.1 (by omega), nm_r (fs_rd eo.1 (by omega)) (ih l (N e) (a + w) hc.2 (fun y hy => hs y (List.mem_cons_of_mem _ hy)) (by omega) ?_)⟩
        have H2 := H
        unfold fs_m at H2
        rw [hw, ← Int.add_assoc] at H2
        exact H2
      have no : ¬ (1 ≤ L (fs_al b e) ∧ V (E e) = V n + fs_sg b) → wX_through_48 post (wX_through_10 post (fs_i n) (fs_i b) pr so sk ed fw qf qs oc a1 a2 a3 (fs_a E) (fs_a L) (fs_a F) (fs_a N) (fs_a V) a9 a10 a11 a12 a13 a14 a15 (fs_a Gn) a17 a18 a19 k) (fs_i n) (fs_i b) (fs_i a) (fs_i e) (fs_i (E e)) 0 pr so sk ed fw qf qs oc a1 a2 a3 (fs_a E) (fs_a L) (fs_a F) (fs_a N) (fs_a V) a9 a10 a11 a12 a13 a14 a15 (fs_a Gn) a17 a18 a19 := by
        intro h
        unfold wX_through_48
        refine br_t rfl ?_
        unfold wX_through_87
        refine rec0 0 ?_
        unfold fs_wt
        rw [if_neg (fun z => h ⟨z.1, z.2.1⟩)]
      have yes : (1 ≤ L (fs_al b e) ∧ V (E e) = V n + fs_sg b) → wX_through_48 post (wX_through_10 post (fs_i n) (fs_i b) pr so sk ed fw qf qs oc a1 a2 a3 (fs_a E) (fs_a L) (fs_a F) (fs_a N) (fs_a V) a9 a10 a11 a12 a13 a14 a15 (fs_a Gn) a17 a18 a19 k) (fs_i n) (fs_i b) (fs_i a) (fs_i e) (fs_i (E e)) 1 pr so sk ed fw qf qs oc a1 a2 a3 (fs_a E) (fs_a L) (fs_a F) (fs_a N) (fs_a V) a9 a10 a11 a12 a13 a14 a15 (fs_a Gn) a17 a18 a19 := by
        intro h
        unfold wX_through_48
        refine br_f (by decide) ⟨fs_in et.1 (by omega), ?_⟩
        rw [fs_rd (L := Gn) et.1 (by omega)]
        refine fs_eq (Gn (E e)) 0 (fun g => ?_) (fun g => ?_)
        · rcases hb with hb | hb
          · subst hb
            refine br_t rfl ?_
            unfold wX_through_83
            rw [fs_rd (L := L) eo.1 (by omega)]
            refine ⟨fs_in eo.1 (by omega), rec0 (L e) ?_⟩
            unfold fs_wt
            rw [if_pos ⟨h.1, h.2, g⟩]
            rfl
          · subst hb
            refine br_f (by decide) ?_
            unfold wX_through_83
            rw [fs_xor eo.1 (by omega), fs_rd (L := L) ex.1 (by omega)]
            refine ⟨fs_in ex.1 (by omega), rec0 (L (fs_x e)) ?_⟩
            unfold fs_wt
            rw [if_pos ⟨h.1, h.2, g⟩]
            rfl
        · unfold wX_through_87
          refine rec0 0 ?_
          unfold fs_wt
          rw [if_neg (fun z => g z.2.2)]
      refine fs_lt e 0 (fun g => absurd g (by omega)) (fun _ => ⟨fs_in eo.1 (by omega), nm_r (fs_rd eo.1 (by omega)) ?_⟩)
      rcases hb with hb | hb
      · subst hb
        refine br_t rfl (fs_lead eo.1 (by omega) et.1 et.2.1 n0 n1 lb.1 (by omega) vn.1 vn.2 vt.1 vt.2 (fun g1 g2 => yes ⟨g1, g2⟩) (fun g => no (fun z => g ⟨z.1, z.2⟩)))
      · subst hb
        rw [fs_xor eo.1 (by omega)]
        refine br_f (by decide) (fs_lead ex.1 (by omega) (by rw [eo.2.2]; exact n0) (by rw [eo.2.2]; exact n1) et.1 et.2.1 lbx.1 (by omega) vt.1 vt.2 (by rw [eo.2.2]; exact vn.1) (by rw [eo.2.2]; exact vn.2) (fun g1 g2 => yes ⟨g1, ?_⟩) (fun g => no (fun z => g ⟨z.1, ?_⟩)))
        · rw [eo.2.2] at g2
          show V (E e) = V n + (-1)
          omega
        · have z2 : V (E e) = V n + (-1) := z.2
          rw [eo.2.2]
          omega
theorem fs_th {n b : Int} (hn : fs_net m E F N ou) (hlp : fs_lp m K L) (hV : ∀ x, 0 ≤ x → x < 16 → -2 < V x ∧ V x < 1000) (hG : ∀ x, 0 ≤ x → x < 16 → Gn x = 0 ∨ Gn x = 1) (n0 : 0 ≤ n) (n1 : n < 16) (hb : b = 0 ∨ b = 1)
    (H : post (fs_i (fs_m (fs_wt b E L V Gn n) (ou n)))) {p1 : Int32} (hp : p1 = fs_i b := by rfl) : wpX_through post (pr, so, sk, ed, fw, qf, qs, oc, a1, a2, a3, fs_a E, fs_a L, fs_a F, fs_a N, fs_a V, a9, a10, a11, a12, a13, a14, a15, fs_a Gn, a17, a18, a19) (fs_i n) p1 := by
  subst hp
  unfold wpX_through
  dsimp only
  refine ⟨fs_in n0 (by omega), nm_r (fs_rd n0 (by omega)) ⟨(ou n).length + 1, fs_th_10 hn hlp hV hG n0 n1 hb _ (ou n) (F n) 0 (fs_net_ch hn n0 n1) (fun x hx => hx) (by omega) ?_⟩⟩
  rw [Int.zero_add]
  exact H
end
/-- what weakestNode answers -/
def fs_wk (s t : Int) (E L V Gn : Int → Int) (ou : Int → List Int) (b A : Int) : Prop :=
  0 ≤ b ∧ b < 16 ∧ Gn b = 0 ∧ 0 ≤ A ∧ A ≤ 297 ∧ (A = fs_io 1 s E L V Gn ou b ∨ A = fs_io 0 t E L V Gn ou b) ∧ ∀ x, 0 ≤ x → x < 16 → Gn x = 0 → A ≤ fs_io 1 s E L V Gn ou x ∧ A ≤ fs_io 0 t E L V Gn ou x
section
variable {m s t : Int} {E F N L V Gn K D : Int → Int} {ou : Int → List Int} {post : Int32 → St2 → Prop} {pr so sk ed fw qf qs oc : Int32} {a1 a2 a3 a4 a5 a6 a7 a8 a9 a10 a11 a12 a13 a14 a15 a16 a17 a18 a19 : Nat → Int32}
theorem fs_io_b (hn : fs_net m E F N ou) (hlp : fs_lp m K L) (hlen : ∀ u, 0 ≤ u → u < 16 → (ou u).length ≤ 3) {b o n : Int} (n0 : 0 ≤ n) (n1 : n < 16) : 0 ≤ fs_io b o E L V Gn ou n ∧ fs_io b o E L V Gn ou n ≤ 1048576 := by
  have a := fs_wm_b (V := V) (Gn := Gn) (b := b) hn hlp hlen n0 n1
  unfold fs_io
  split <;> omega
theorem fs_wn_7 (hn : fs_net m E F N ou) (hlp : fs_lp m K L) (hlen : ∀ u, 0 ≤ u → u < 16 → (ou u).length ≤ 3) (hV : ∀ x, 0 ≤ x → x < 16 → -2 < V x ∧ V x < 1000) (hG : ∀ x, 0 ≤ x → x < 16 → Gn x = 0 ∨ Gn x = 1) (s0 : 0 ≤ s) (s1 : s < 16) (t0 : 0 ≤ t) (t1 : t < 16) (st : s ≠ t) (hs : Gn s = 0)
    (H : ∀ b A, fs_wk s t E L V Gn ou b A → post (fs_i b) (pr, fs_i s, fs_i t, ed, fw, qf, qs, oc, a1, a2, a3, fs_a E, fs_a L, fs_a F, fs_a N, fs_a V, a9, a10, a11, a12, a13, a14, a15, fs_a Gn, fs_a (fs_u D 0 A), a18, a19)) :
    ∀ (n : Nat) (b A k : Int), 0 ≤ k → k ≤ 16 → 0 ≤ A → A ≤ 1048576 → ((b = -1 ∧ A = 1048576) ∨ (0 ≤ b ∧ b < 16 ∧ Gn b = 0 ∧ (A = fs_io 1 s E L V Gn ou b ∨ A = fs_io 0 t E L V Gn ou b))) →
      (∀ x, 0 ≤ x → x < k → Gn x = 0 → A ≤ fs_io 1 s E L V Gn ou x ∧ A ≤ fs_io 0 t E L V Gn ou x) → 16 - k < n →
      wX_weakestNode_7 post pr (fs_i s) (fs_i t) ed fw qf qs oc a1 a2 a3 (fs_a E) (fs_a L) (fs_a F) (fs_a N) (fs_a V) a9 a10 a11 a12 a13 a14 a15 (fs_a Gn) (fs_a D) a18 a19 n (fs_i b) (fs_i A) (fs_i k) := by
  intro n
  induction n with
  | zero => intro b A k k0 k1 _ _ _ _ h; omega
  | succ n ih =>
    intro b A k k0 k1 A0 A1 hbb hmin hl
    unfold wX_weakestNode_7
    refine fs_le 16 k (fun g => ?_) (fun g => ⟨fs_in k0 (by omega), ?_⟩)
    · have u0 : upd (fs_a D) 0 (fs_i A) = fs_a (fs_u D 0 A) := by
        have w := fs_up (L := D) (e := 0) (z := A) (by omega) (by omega)
        rw [fs_cl (by omega) (by omega)] at w
        exact w
      refine nm_r u0 (H b A ?_)
      have w := (hmin s s0 (by omega) hs).2
      have w2 := fs_wm_b (V := V) (Gn := Gn) (b := 0) hn hlp hlen s0 s1
      unfold fs_io at w
      rw [if_neg st] at w
      rcases hbb with ⟨_, z⟩ | ⟨z0, z1, z2, z3⟩
      · omega
      · exact ⟨z0, z1, z2, A0, by omega, z3, fun x x0 x1 hx => hmin x x0 (by omega) hx⟩
    · rw [fs_rd (L := Gn) k0 (by omega)]
      have hgb := hG k k0 g
      refine fs_eq (Gn k) 0 (fun g2 => ?_) (fun g2 => nm_r (fs_p1 k) (ih b A (k + 1) (by omega) (by omega) A0 A1 hbb (fun x x0 x1 hx => hmin x x0 (by
        rcases Int.lt_or_le x k with z | z
        · exact z
        · have e : x = k := by omega
          rw [e] at hx
          exact absurd hx g2) hx) (by omega)))
      have bi := fs_io_b (V := V) (Gn := Gn) (b := 1) (o := s) hn hlp hlen k0 g
      have bo := fs_io_b (V := V) (Gn := Gn) (b := 0) (o := t) hn hlp hlen k0 g
      have fin : ∀ I O, I = fs_io 1 s E L V Gn ou k → O = fs_io 0 t E L V Gn ou k → wX_weakestNode_62 post (wX_weakestNode_7 post pr (fs_i s) (fs_i t) ed fw qf qs oc a1 a2 a3 (fs_a E) (fs_a L) (fs_a F) (fs_a N) (fs_a V) a9 a10 a11 a12 a13 a14 a15 (fs_a Gn) (fs_a D) a18 a19 n) (fs_i b) (fs_i A) (fs_i k) (fs_i I) (fs_i O) pr (fs_i s) (fs_i t) ed fw qf qs oc a1 a2 a3 (fs_a E) (fs_a L) (fs_a F) (fs_a N) (fs_a V) a9 a10 a11 a12 a13 a14 a15 (fs_a Gn) (fs_a D) a18 a19 := by
        intro I O hI hO
        rw [← hI] at bi
        rw [← hO] at bo
        have own : ∀ w, 0 ≤ w → w ≤ 1048576 → w ≤ I → w ≤ O → (w = I ∨ w = O) → wX_weakestNode_78 post (wX_weakestNode_7 post pr (fs_i s) (fs_i t) ed fw qf qs oc a1 a2 a3 (fs_a E) (fs_a L) (fs_a F) (fs_a N) (fs_a V) a9 a10 a11 a12 a13 a14 a15 (fs_a Gn) (fs_a D) a18 a19 n) (fs_i b) (fs_i A) (fs_i k) (fs_i w) pr (fs_i s) (fs_i t) ed fw qf qs oc a1 a2 a3 (fs_a E) (fs_a L) (fs_a F) (fs_a N) (fs_a V) a9 a10 a11 a12 a13 a14 a15 (fs_a Gn) (fs_a D) a18 a19 := by
          intro w w0 w1 wi wo we
          unfold wX_weakestNode_78
          unfold wX_weakestNode_91
          refine fs_le A w (fun g3 => fs_le A w (fun g4 => nm_r (fs_p1 k) (ih b A (k + 1) (by omega) (by omega) A0 A1 hbb (fun x x0 x1 hx => ?_) (by omega))) (fun g4 => absurd g3 (by omega))) (fun g3 => fs_le A w (fun g4 => absurd g3 (by omega)) (fun g4 => nm_r (fs_p1 k) (ih k w (k + 1) (by omega) (by omega) w0 w1 (Or.inr ⟨k0, g, g2, ?_⟩) (fun x x0 x1 hx => ?_) (by omega))))
          · by_cases c : x = k
            · rw [c, ← hI, ← hO]
              omega
            · exact hmin x x0 (by omega) hx
          · rw [← hI, ← hO]
            exact we
          · by_cases c : x = k
            · rw [c, ← hI, ← hO]
              omega
            · have := hmin x x0 (by omega) hx
              omega
        unfold wX_weakestNode_62
        exact fs_le O I (fun g3 => own O bo.1 bo.2 g3 (Int.le_refl _) (Or.inr rfl)) (fun g3 => own I bi.1 bi.2 (Int.le_refl _) (by omega) (Or.inl rfl))
      have mid : ∀ I, I = fs_io 1 s E L V Gn ou k → wX_weakestNode_41 post (wX_weakestNode_7 post pr (fs_i s) (fs_i t) ed fw qf qs oc a1 a2 a3 (fs_a E) (fs_a L) (fs_a F) (fs_a N) (fs_a V) a9 a10 a11 a12 a13 a14 a15 (fs_a Gn) (fs_a D) a18 a19 n) (fs_i b) (fs_i A) (fs_i k) (fs_i I) pr (fs_i s) (fs_i t) ed fw qf qs oc a1 a2 a3 (fs_a E) (fs_a L) (fs_a F) (fs_a N) (fs_a V) a9 a10 a11 a12 a13 a14 a15 (fs_a Gn) (fs_a D) a18 a19 := by
        intro I hI
        unfold wX_weakestNode_41
        refine fs_eq k t (fun c => fin I 1048576 hI ?_) (fun c => fs_th (b := 0) hn hlp hV hG k0 g (Or.inl rfl) (fin I _ hI ?_))
        · unfold fs_io
          rw [if_pos c]
        · unfold fs_io
          rw [if_neg c]
      refine fs_eq k s (fun c => mid 1048576 ?_) (fun c => fs_th (b := 1) hn hlp hV hG k0 g (Or.inr rfl) (mid _ ?_))
      · unfold fs_io
        rw [if_pos c]
      · unfold fs_io
        rw [if_neg c]
theorem fs_wn (hn : fs_net m E F N ou) (hlp : fs_lp m K L) (hlen : ∀ u, 0 ≤ u → u < 16 → (ou u).length ≤ 3) (hV : ∀ x, 0 ≤ x → x < 16 → -2 < V x ∧ V x < 1000) (hG : ∀ x, 0 ≤ x → x < 16 → Gn x = 0 ∨ Gn x = 1) (s0 : 0 ≤ s) (s1 : s < 16) (t0 : 0 ≤ t) (t1 : t < 16) (st : s ≠ t) (hs : Gn s = 0)
    (H : ∀ b A, fs_wk s t E L V Gn ou b A → post (fs_i b) (pr, fs_i s, fs_i t, ed, fw, qf, qs, oc, a1, a2, a3, fs_a E, fs_a L, fs_a F, fs_a N, fs_a V, a9, a10, a11, a12, a13, a14, a15, fs_a Gn, fs_a (fs_u D 0 A), a18, a19)) :
    wpX_weakestNode post (pr, fs_i s, fs_i t, ed, fw, qf, qs, oc, a1, a2, a3, fs_a E, fs_a L, fs_a F, fs_a N, fs_a V, a9, a10, a11, a12, a13, a14, a15, fs_a Gn, fs_a D, a18, a19) := by
  unfold wpX_weakestNode
  dsimp only
  exact ⟨17, fs_wn_7 hn hlp hlen hV hG s0 s1 t0 t1 st hs H 17 (-1) 1048576 0 (by omega) (by omega) (by omega) (by omega) (Or.inl ⟨rfl, rfl⟩) (fun x x0 x1 => by omega) (by omega)⟩
end
end
section
/-! part 07: engine 5: spreadFrom, spread -/
def fs_sv (b d : Int) : Int := if b = 0 then d else -d
theorem fs_sv0 (d : Int) : fs_sv 0 d = d := if_pos rfl
theorem fs_sv1 (d : Int) : fs_sv 1 d = -d := if_neg (by decide)
theorem fs_al0 (e : Int) : fs_al 0 e = e := if_pos rfl
theorem fs_al1 (e : Int) : fs_al 1 e = fs_x e := if_neg (by decide)
theorem fs_sg0 : fs_sg 0 = 1 := if_pos rfl
theorem fs_sg1 : fs_sg 1 = -1 := if_neg (by decide)
/-- what a spread from node n may change -/
def fs_sf (m b : Int) (E V Gn K : Int → Int) (ou : Int → List Int) (n : Int) (L D L' D' : Int → Int) : Prop :=
  fs_lp m K L' ∧ (∀ u, 0 ≤ u → u < 16 → fs_m L' (ou u) - fs_sv b (D' u) = fs_m L (ou u) - fs_sv b (D u)) ∧ fs_s D' 16 = fs_s D 16 ∧
  (∀ x, 0 ≤ x → x < 16 → x ≠ n → D' x = D x ∨ (V x = V n + fs_sg b ∧ Gn x = 0 ∧ D x ≤ D' x)) ∧
  (∀ e, 0 ≤ e → e < m → L' e = L e ∨ (E (fs_x e) = n ∧ V (E e) = V n + fs_sg b) ∨ (E e = n ∧ V (E (fs_x e)) = V n + fs_sg b))
section
variable {m b : Int} {E F N V Gn K : Int → Int} {ou : Int → List Int}
theorem fs_sf_r {n : Int} {L D : Int → Int} (h : fs_lp m K L) : fs_sf m b E V Gn K ou n L D L D :=
  ⟨h, fun _ _ _ => rfl, rfl, fun _ _ _ _ => Or.inl rfl, fun _ _ _ => Or.inl rfl⟩
/-- the weights of another node stay -/
theorem fs_sf_wt {n : Int} {L D L' D' : Int → Int} (hn : fs_net m E F N ou) (hb : b = 0 ∨ b = 1) (h : fs_sf m b E V Gn K ou n L D L' D') {x : Int} (x0 : 0 ≤ x) (x1 : x < 16) (xn : x ≠ n) : fs_m (fs_wt b E L' V Gn x) (ou x) = fs_m (fs_wt b E L V Gn x) (ou x) := by
  refine fs_m_c (fun e he => ?_)
  have eo := fs_net_ou hn x0 x1 he
  have ea := fs_al_b (b := b) hn eo.1 eo.2.1
  have hc := h.2.2.2.2 (fs_al b e) ea.1 ea.2
  unfold fs_wt
  by_cases c : V (E e) = V x + fs_sg b ∧ Gn (E e) = 0
  · have same : L' (fs_al b e) = L (fs_al b e) := by
      rcases hb with hb | hb
      · subst hb
        rw [fs_al0] at hc ⊢
        rw [fs_sg0] at hc c
        rcases hc with w | w | w
        · exact w
        · rw [eo.2.2] at w
          exact absurd w.1 xn
        · rw [eo.2.2, w.1.symm] at w
          omega
      · subst hb
        rw [fs_al1] at hc ⊢
        rw [fs_sg1] at hc c
        rw [fs_xx] at hc
        rcases hc with w | w | w
        · exact w
        · rw [eo.2.2, ← w.1] at w
          omega
        · rw [eo.2.2] at w
          exact absurd w.1 xn
    rw [same]
  · rw [if_neg (fun z => c z.2), if_neg (fun z => c z.2)]
/-- one push of a spread -/
theorem fs_sf_s {n e x : Int} {L0 D0 L D : Int → Int} (hn : fs_net m E F N ou) (hb : b = 0 ∨ b = 1) (h : fs_sf m b E V Gn K ou n L0 D0 L D) (n0 : 0 ≤ n) (n1 : n < 16) (he : e ∈ ou n) (hv : V (E e) = V n + fs_sg b) (hg : Gn (E e) = 0) (hx : 0 ≤ x) (hxl : x ≤ L (fs_al b e)) :
    fs_sf m b E V Gn K ou n L0 D0 (fs_mv L (fs_al b e) x) (fs_u (fs_u D n (D n - x)) (E e) (D (E e) + x)) := by
  have eo := fs_net_ou hn n0 n1 he
  have et := fs_net_to hn eo.1 eo.2.1
  have ex := fs_net_x hn eo.1 eo.2.1
  have ea := fs_al_b (b := b) hn eo.1 eo.2.1
  have hne : E e ≠ n := by
    have w := et.2.2.1
    rw [eo.2.2] at w
    exact w
  obtain ⟨h1, h2, h3, h4, h5⟩ := h
  refine ⟨fs_mv_lp hn h1 ea.1 ea.2 hx hxl, fun u u0 u1 => ?_, ?_, fun y y0 y1 yn => ?_, fun f f0 f1 => ?_⟩
  · rw [← h2 u u0 u1]
    have Dv : fs_u (fs_u D n (D n - x)) (E e) (D (E e) + x) u = D u - (if u = n then x else 0) + (if u = E e then x else 0) := by
      by_cases c : u = E e
      · rw [c, fs_us, if_neg hne, if_pos rfl]
        omega
      · rw [fs_un c, if_neg c]
        by_cases c2 : u = n
        · rw [c2, fs_us, if_pos rfl]
          omega
        · rw [fs_un c2, if_neg c2]
          omega
    rw [Dv]
    rcases hb with hb | hb
    · subst hb
      rw [fs_al0, fs_mv_m hn eo.1 eo.2.1 u0 u1, eo.2.2, fs_sv0, fs_sv0]
      omega
    · subst hb
      rw [fs_al1, fs_mv_m hn ex.1 ex.2 u0 u1, fs_xx, eo.2.2, fs_sv1, fs_sv1]
      omega
  · rw [← h3]
    have w := fs_s_v (f := D) (g := fs_u (fs_u D n (D n - x)) (E e) (D (E e) + x)) (k := 16) (x := n) (y := E e) n0 (by omega) et.1 (by omega) (fun z => hne z.symm) (fun j _ _ c1 c2 => by rw [fs_un c2, fs_un c1])
    rw [fs_us, fs_un (fun z => hne z.symm), fs_us] at w
    omega
  · have w := h4 y y0 y1 yn
    by_cases c : y = E e
    · rw [c, fs_us]
      rw [c] at w
      refine Or.inr ⟨hv, hg, ?_⟩
      omega
    · rw [fs_un c, fs_un yn]
      exact w
  · by_cases c : f = fs_al b e
    · refine Or.inr ?_
      rcases hb with hb | hb
      · subst hb
        rw [fs_al0] at c
        rw [c]
        exact Or.inl ⟨eo.2.2, hv⟩
      · subst hb
        rw [fs_al1] at c
        rw [c, fs_xx]
        exact Or.inr ⟨eo.2.2, hv⟩
    · by_cases c2 : f = fs_x (fs_al b e)
      · refine Or.inr ?_
        rcases hb with hb | hb
        · subst hb
          rw [fs_al0] at c2
          rw [c2, fs_xx]
          exact Or.inr ⟨eo.2.2, hv⟩
        · subst hb
          rw [fs_al1, fs_xx] at c2
          rw [c2]
          exact Or.inl ⟨eo.2.2, hv⟩
      · rw [fs_mv_o c c2]
        exact h5 f f0 f1
end
section
variable {m b : Int} {E F N V Gn K L0 D0 : Int → Int} {ou : Int → List Int} {post : St2 → Prop} {pr so sk ed fw qf qs oc : Int32} {a1 a2 a3 a4 a5 a6 a7 a8 a9 a10 a11 a12 a13 a14 a15 a16 a17 a18 a19 : Nat → Int32}
theorem fs_sp_7 {n : Int} (hn : fs_net m E F N ou) (hV : ∀ x, 0 ≤ x → x < 16 → -2 < V x ∧ V x < 1000) (hG : ∀ x, 0 ≤ x → x < 16 → Gn x = 0 ∨ Gn x = 1) (n0 : 0 ≤ n) (n1 : n < 16) (hb : b = 0 ∨ b = 1)
    (H : ∀ L D, fs_sf m b E V Gn K ou n L0 D0 L D → D n = 0 → post (pr, so, sk, ed, fw, qf, qs, oc, a1, a2, a3, fs_a E, fs_a L, fs_a F, fs_a N, fs_a V, a9, a10, a11, a12, a13, a14, a15, fs_a Gn, fs_a D, a18, a19)) :
    ∀ (k : Nat) (l : List Int) (e : Int) (L D : Int → Int), fs_ch N l e → l.Nodup → (∀ x, x ∈ l → x ∈ ou n) → fs_sf m b E V Gn K ou n L0 D0 L D → 0 ≤ D n → D n ≤ 1000 → D n ≤ fs_m (fs_wt b E L V Gn n) l → l.length < k →
      wX_spreadFrom_7 post (fs_i n) (fs_i b) k (fs_i e) pr so sk ed fw qf qs oc a1 a2 a3 (fs_a E) (fs_a L) (fs_a F) (fs_a N) (fs_a V) a9 a10 a11 a12 a13 a14 a15 (fs_a Gn) (fs_a D) a18 a19 := by
  intro k
  induction k with
  | zero => intro l e L D _ _ _ _ _ _ _ h; omega
  | succ k ih =>
    intro l e L D hc hnd hs hsf d0 d1 hw hl
    unfold wX_spreadFrom_7
    cases l with
    | nil =>
      have he : e = -1 := hc
      subst he
      unfold fs_m at hw
      exact fs_lt (-1) 0 (fun _ => H L D hsf (by omega)) (fun g => absurd g (by omega))
    | cons x l =>
      have he : e = x := hc.1
      subst he
      rw [List.length_cons] at hl
      have hm := fs_net_m hn
      have hmem := hs e List.mem_cons_self
      have eo := fs_net_ou hn n0 n1 hmem
      have et := fs_net_to hn eo.1 eo.2.1
      have ex := fs_net_x hn eo.1 eo.2.1
      have ea := fs_al_b (b := b) hn eo.1 eo.2.1
      have hgb := hG (E e) et.1 et.2.1
      have vn := hV n n0 n1
      have vt := hV (E e) et.1 et.2.1
      have lb := fs_lp_b hn hsf.1 eo.1 eo.2.1
      have lbx := fs_lp_b hn hsf.1 ex.1 ex.2
      have lba := fs_lp_b hn hsf.1 ea.1 ea.2
      have nd := List.nodup_cons.mp hnd
      have hne : E e ≠ n := by
        have w := et.2.2.1
        rw [eo.2.2] at w
        exact w
      have hw2 : D n ≤ fs_wt b E L V Gn n e + fs_m (fs_wt b E L V Gn n) l := hw
      have skip : fs_wt b E L V Gn n e = 0 → vp_in (fs_i e) 56 ∧ ∀ y : Int32, y = fs_a N (fs_i e).toNatClampNeg → wX_spreadFrom_7 post (fs_i n) (fs_i b) k y pr so sk ed fw qf qs oc a1 a2 a3 (fs_a E) (fs_a L) (fs_a F) (fs_a N) (fs_a V) a9 a10 a11 a12 a13 a14 a15 (fs_a Gn) (fs_a D) a18 a19 := fun hz =>
        ⟨fs_in eo.1 (by omega), nm_r (fs_rd eo.1 (by omega)) (ih l (N e) L D hc.2 nd.2 (fun y hy => hs y (List.mem_cons_of_mem _ hy)) hsf d0 d1 (by omega) (by omega))⟩
      have push : ∀ w, 0 ≤ w → w ≤ D n → w ≤ L (fs_al b e) → (w = D n ∨ w = L (fs_al b e)) → 1 ≤ L (fs_al b e) → V (E e) = V n + fs_sg b → Gn (E e) = 0 →
          wX_spreadFrom_112 post (wX_spreadFrom_7 post (fs_i n) (fs_i b) k) (fs_i n) (fs_i b) (fs_i e) (fs_i (E e)) (fs_i (fs_al b e)) (fs_i w) pr so sk ed fw qf qs oc a1 a2 a3 (fs_a E) (fs_a L) (fs_a F) (fs_a N) (fs_a V) a9 a10 a11 a12 a13 a14 a15 (fs_a Gn) (fs_a D) a18 a19 := by
        intro w w0 w1 w2 w3 hL1 hv hg
        unfold wX_spreadFrom_112
        refine fs_move (e := fs_al b e) (x := w) ea.1 (by omega) ?_
        refine ⟨fs_in n0 (by omega), fs_in n0 (by omega), nm_r (e' := fs_a (fs_u D n (D n - w))) (by rw [fs_rd n0 (by omega), fs_sub, fs_up n0 (by omega)]) ⟨fs_in et.1 (by omega), fs_in et.1 (by omega), nm_r (e' := fs_a (fs_u (fs_u D n (D n - w)) (E e) (D (E e) + w))) (by rw [fs_rd et.1 (by omega), fs_un hne, fs_add, fs_up et.1 (by omega)]) ⟨fs_in eo.1 (by omega), nm_r (fs_rd eo.1 (by omega)) ?_⟩⟩⟩
        have hD : fs_u (fs_u D n (D n - w)) (E e) (D (E e) + w) n = D n - w := by rw [fs_un (fun z => hne z.symm), fs_us]
        have hwe : fs_wt b E L V Gn n e = L (fs_al b e) := by
          unfold fs_wt
          rw [if_pos ⟨hL1, hv, hg⟩]
        have same : fs_m (fs_wt b E (fs_mv L (fs_al b e) w) V Gn n) l = fs_m (fs_wt b E L V Gn n) l := by
          refine fs_m_c (fun y hy => ?_)
          have yo := fs_net_ou hn n0 n1 (hs y (List.mem_cons_of_mem _ hy))
          have yn : y ≠ e := fun z => nd.1 (by rw [← z]; exact hy)
          have yx : y ≠ fs_x e := fun z => hne (by
            have w9 := yo.2.2
            rw [z, fs_xx] at w9
            exact w9)
          have o : fs_mv L (fs_al b e) w (fs_al b y) = L (fs_al b y) := by
            rcases hb with hb | hb
            · subst hb
              rw [fs_al0, fs_al0]
              exact fs_mv_o yn yx
            · subst hb
              rw [fs_al1, fs_al1]
              refine fs_mv_o (fun z => yn ?_) (fun z => yx ?_)
              · rw [← fs_xx y, z, fs_xx]
              · rw [fs_xx] at z
                rw [← z, fs_xx]
          unfold fs_wt
          rw [o]
        refine ih l (N e) _ _ hc.2 nd.2 (fun y hy => hs y (List.mem_cons_of_mem _ hy)) (fs_sf_s hn hb hsf n0 n1 hmem hv hg w0 w2) (by rw [hD]; omega) (by rw [hD]; omega) ?_ (by omega)
        rw [hD, same]
        have nonneg : 0 ≤ fs_m (fs_wt b E L V Gn n) l := fs_m_0 (fun y hy => (fs_wt_b hn hsf.1 (fs_net_ou hn n0 n1 (hs y (List.mem_cons_of_mem _ hy))).1 (fs_net_ou hn n0 n1 (hs y (List.mem_cons_of_mem _ hy))).2.1).1)
        omega
      have no : ¬ (1 ≤ L (fs_al b e) ∧ V (E e) = V n + fs_sg b) → wX_spreadFrom_63 post (wX_spreadFrom_7 post (fs_i n) (fs_i b) k) (fs_i n) (fs_i b) (fs_i e) (fs_i (E e)) (fs_i (fs_al b e)) 0 pr so sk ed fw qf qs oc a1 a2 a3 (fs_a E) (fs_a L) (fs_a F) (fs_a N) (fs_a V) a9 a10 a11 a12 a13 a14 a15 (fs_a Gn) (fs_a D) a18 a19 := by
        intro h
        unfold wX_spreadFrom_63
        refine br_t rfl (skip ?_)
        unfold fs_wt
        rw [if_neg (fun z => h ⟨z.1, z.2.1⟩)]
      have yes : (1 ≤ L (fs_al b e) ∧ V (E e) = V n + fs_sg b) → 1 ≤ D n → wX_spreadFrom_63 post (wX_spreadFrom_7 post (fs_i n) (fs_i b) k) (fs_i n) (fs_i b) (fs_i e) (fs_i (E e)) (fs_i (fs_al b e)) 1 pr so sk ed fw qf qs oc a1 a2 a3 (fs_a E) (fs_a L) (fs_a F) (fs_a N) (fs_a V) a9 a10 a11 a12 a13 a14 a15 (fs_a Gn) (fs_a D) a18 a19 := by
        intro h hd
        unfold wX_spreadFrom_63
        refine br_f (by decide) ⟨fs_in et.1 (by omega), ?_⟩
        rw [fs_rd (L := Gn) et.1 (by omega)]
        refine fs_eq (Gn (E e)) 0 (fun g => ⟨fs_in ea.1 (by omega), fs_in n0 (by omega), ?_⟩) (fun g => skip ?_)
        · rw [fs_rd (L := D) n0 (by omega), fs_rd (L := L) ea.1 (by omega)]
          exact fs_le (D n) (L (fs_al b e)) (fun g2 => ⟨fs_in n0 (by omega), push (D n) d0 (Int.le_refl _) g2 (Or.inl rfl) h.1 h.2 g⟩) (fun g2 => ⟨fs_in ea.1 (by omega), push (L (fs_al b e)) lba.1 (by omega) (Int.le_refl _) (Or.inr rfl) h.1 h.2 g⟩)
        · unfold fs_wt
          rw [if_neg (fun z => g z.2.2)]
      refine fs_lt e 0 (fun g => absurd g (by omega)) (fun _ => ⟨fs_in n0 (by omega), ?_⟩)
      rw [fs_rd (L := D) n0 (by omega)]
      refine fs_le (D n) 0 (fun g => H L D hsf (by omega)) (fun g => ⟨fs_in eo.1 (by omega), nm_r (fs_rd eo.1 (by omega)) ?_⟩)
      rcases hb with hb | hb
      · subst hb
        rw [fs_al0] at yes no
        refine br_t rfl ?_
        unfold wX_spreadFrom_39
        exact br_t rfl (fs_lead eo.1 (by omega) et.1 et.2.1 n0 n1 lb.1 (by omega) vn.1 vn.2 vt.1 vt.2 (fun g1 g2 => yes ⟨g1, g2⟩ (by omega)) (fun g => no (fun z => g ⟨z.1, z.2⟩)))
      · subst hb
        rw [fs_al1] at yes no
        rw [fs_xor eo.1 (by omega)]
        refine br_f (by decide) ?_
        unfold wX_spreadFrom_39
        refine br_f (by decide) (fs_lead ex.1 (by omega) (by rw [eo.2.2]; exact n0) (by rw [eo.2.2]; exact n1) et.1 et.2.1 lbx.1 (by omega) vt.1 vt.2 (by rw [eo.2.2]; exact vn.1) (by rw [eo.2.2]; exact vn.2) (fun g1 g2 => yes ⟨g1, ?_⟩ (by omega)) (fun g => no (fun z => g ⟨z.1, ?_⟩)))
        · rw [eo.2.2] at g2
          rw [fs_sg1]
          omega
        · have z2 := z.2
          rw [fs_sg1] at z2
          rw [eo.2.2]
          omega
theorem fs_spf {n : Int} (hn : fs_net m E F N ou) (hV : ∀ x, 0 ≤ x → x < 16 → -2 < V x ∧ V x < 1000) (hG : ∀ x, 0 ≤ x → x < 16 → Gn x = 0 ∨ Gn x = 1) (n0 : 0 ≤ n) (n1 : n < 16) (hb : b = 0 ∨ b = 1) (hlp : fs_lp m K L0) (d0 : 0 ≤ D0 n) (d1 : D0 n ≤ 1000) (hw : D0 n ≤ fs_m (fs_wt b E L0 V Gn n) (ou n))
    (H : ∀ L D, fs_sf m b E V Gn K ou n L0 D0 L D → D n = 0 → post (pr, so, sk, ed, fw, qf, qs, oc, a1, a2, a3, fs_a E, fs_a L, fs_a F, fs_a N, fs_a V, a9, a10, a11, a12, a13, a14, a15, fs_a Gn, fs_a D, a18, a19)) :
    wpX_spreadFrom post (pr, so, sk, ed, fw, qf, qs, oc, a1, a2, a3, fs_a E, fs_a L0, fs_a F, fs_a N, fs_a V, a9, a10, a11, a12, a13, a14, a15, fs_a Gn, fs_a D0, a18, a19) (fs_i n) (fs_i b) := by
  unfold wpX_spreadFrom
  dsimp only
  exact ⟨fs_in n0 (by omega), nm_r (fs_rd n0 (by omega)) ⟨(ou n).length + 1, fs_sp_7 hn hV hG n0 n1 hb H _ (ou n) (F n) L0 D0 (fs_net_ch hn n0 n1) (fs_net_nd hn n0 n1) (fun x hx => hx) (fs_sf_r hlp) d0 d1 hw (by omega)⟩⟩
end
end
section
/-! part 08: engine 5: spread, fillByWeakest, solveByWeakestNodes -/
theorem fs_s_1 {f : Int → Int} {y : Int} (y0 : 0 ≤ y) (y1 : y < 16) (h : ∀ x, 0 ≤ x → x < 16 → x ≠ y → f x = 0) : fs_s f 16 = f y := by
  have w := fs_s_u (f := fun _ => 0) (g := f) (k := 16) (x := y) y0 (by omega) (fun j j0 j1 c => h j j0 (by omega) c)
  have z : fs_s (fun _ => (0 : Int)) 16 = 0 := rfl
  omega
def fs_sp (m b A : Int) (E V Gn K : Int → Int) (ou : Int → List Int) (Z L0 : Int → Int) (stt en l k : Int) (L D : Int → Int) : Prop :=
  fs_lp m K L ∧ (∀ u, 0 ≤ u → u < 16 → fs_m L (ou u) - fs_sv b (D u) = Z u) ∧ (∀ x, 0 ≤ x → x < 16 → 0 ≤ D x) ∧ fs_s D 16 = A ∧
  (∀ x, 0 ≤ x → x < 16 → Gn x = 0 → x ≠ en → ((V x = l ∧ k ≤ x) ∨ 1 ≤ fs_sv b (V x - l)) → A ≤ fs_m (fs_wt b E L V Gn x) (ou x)) ∧
  (∀ e, 0 ≤ e → e < m → L e = L0 e ∨ (0 ≤ fs_sv b (V (E e) - V stt) ∧ 0 ≤ fs_sv b (V (E (fs_x e)) - V stt))) ∧ 0 ≤ fs_sv b (l - V stt)
section
variable {m b A : Int} {E F N V Gn K Z L0 : Int → Int} {ou : Int → List Int} {stt en : Int} {post : St2 → Prop} {pr so sk ed fw qf qs oc : Int32} {a1 a2 a3 a4 a5 a6 a7 a8 a9 a10 a11 a12 a13 a14 a15 a16 a17 a18 a19 : Nat → Int32}
theorem fs_sp_85 {J : Int32 → Int32 → Int32 → Int32 → Int32 → Int32 → Int32 → Int32 → Int32 → (Nat → Int32) → (Nat → Int32) → (Nat → Int32) → (Nat → Int32) → (Nat → Int32) → (Nat → Int32) → (Nat → Int32) → (Nat → Int32) → (Nat → Int32) → (Nat → Int32) → (Nat → Int32) → (Nat → Int32) → (Nat → Int32) → (Nat → Int32) → (Nat → Int32) → (Nat → Int32) → (Nat → Int32) → (Nat → Int32) → (Nat → Int32) → Prop} {l : Int} {c c4 : Int32}
    (hn : fs_net m E F N ou) (hV : ∀ x, 0 ≤ x → x < 16 → -2 < V x ∧ V x < 1000) (hG : ∀ x, 0 ≤ x → x < 16 → Gn x = 0 ∨ Gn x = 1) (hb : b = 0 ∨ b = 1) (hc : c = fs_i (fs_sg b)) (A1 : A ≤ 1000) (l0 : -2 < l) (l1 : l < 1000) (hle : l ≠ V en)
    (HJ : ∀ L D, fs_sp m b A E V Gn K ou Z L0 stt en l 16 L D → (∀ x, 0 ≤ x → x < 16 → 1 ≤ D x → Gn x = 0 ∧ V x = l + fs_sg b) → J (fs_i (l + fs_sg b)) pr so sk ed fw qf qs oc a1 a2 a3 (fs_a E) (fs_a L) (fs_a F) (fs_a N) (fs_a V) a9 a10 a11 a12 a13 a14 a15 (fs_a Gn) (fs_a D) a18 a19) :
    ∀ (n : Nat) (k : Int) (L D : Int → Int), 0 ≤ k → k ≤ 16 → fs_sp m b A E V Gn K ou Z L0 stt en l k L D → (∀ x, 0 ≤ x → x < 16 → 1 ≤ D x → Gn x = 0 ∧ ((V x = l ∧ k ≤ x) ∨ V x = l + fs_sg b)) → 16 - k < n →
      wX_spread_85 post J (fs_i b) c4 c (fs_i l) n (fs_i k) pr so sk ed fw qf qs oc a1 a2 a3 (fs_a E) (fs_a L) (fs_a F) (fs_a N) (fs_a V) a9 a10 a11 a12 a13 a14 a15 (fs_a Gn) (fs_a D) a18 a19 := by
  subst hc
  intro n
  induction n with
  | zero => intro k L D k0 k1 _ _ h; omega
  | succ n ih =>
    intro k L D k0 k1 hsp h4 hl
    unfold wX_spread_85
    refine fs_le 16 k (fun g => nm_r (fs_add l (fs_sg b)) (HJ L D ?_ (fun x x0 x1 hx => ?_))) (fun g => ⟨fs_in k0 (by omega), ?_⟩)
    · have e : k = 16 := by omega
      rw [← e]
      exact hsp
    · have w := h4 x x0 x1 hx
      refine ⟨w.1, ?_⟩
      rcases w.2 with w2 | w2
      · omega
      · exact w2
    · have hgb := hG k k0 g
      have hvk := hV k k0 g
      obtain ⟨p1, p2, p3, p4, p5, p6, p7⟩ := hsp
      have d0 := p3 k k0 g
      have dA : D k ≤ A := by
        rw [← p4]
        exact fs_s_p (fun j j0 j1 => p3 j j0 (by omega)) k0 (by omega)
      have skip : ¬ (Gn k = 0 ∧ V k = l ∧ 1 ≤ D k) → wX_spread_85 post J (fs_i b) c4 (fs_i (fs_sg b)) (fs_i l) n (fs_i (k + 1)) pr so sk ed fw qf qs oc a1 a2 a3 (fs_a E) (fs_a L) (fs_a F) (fs_a N) (fs_a V) a9 a10 a11 a12 a13 a14 a15 (fs_a Gn) (fs_a D) a18 a19 := by
        intro hno
        refine ih (k + 1) L D (by omega) (by omega) ⟨p1, p2, p3, p4, fun x x0 x1 hx xe hor => p5 x x0 x1 hx xe ?_, p6, p7⟩ (fun x x0 x1 hx => ?_) (by omega)
        · rcases hor with w | w
          · exact Or.inl ⟨w.1, by omega⟩
          · exact Or.inr w
        · have w := h4 x x0 x1 hx
          refine ⟨w.1, ?_⟩
          rcases w.2 with w2 | w2
          · by_cases c : x = k
            · rw [c] at w w2 hx
              exact absurd ⟨w.1, w2.1, hx⟩ hno
            · exact Or.inl ⟨w2.1, by omega⟩
          · exact Or.inr w2
      rw [fs_rd (L := Gn) k0 (by omega), fs_rd (L := V) k0 (by omega), fs_rd (L := D) k0 (by omega)]
      refine fs_eq (Gn k) 0 (fun g2 => ⟨fs_in k0 (by omega), ?_⟩) (fun g2 => nm_r (fs_p1 k) (skip (fun z => g2 z.1)))
      refine fs_eq (V k) l (fun g3 => ⟨fs_in k0 (by omega), ?_⟩) (fun g3 => nm_r (fs_p1 k) (skip (fun z => g3 z.2.1)))
      refine fs_le (D k) 0 (fun g4 => nm_r (fs_p1 k) (skip (fun z => by omega))) (fun g4 => ?_)
      have ken : k ≠ en := fun z => hle (by rw [← z, g3])
      refine fs_spf (K := K) hn hV hG k0 g hb p1 d0 (by omega) ?_ (fun L' D' hsf hD0 => nm_r (fs_p1 k) (ih (k + 1) L' D' (by omega) (by omega) ?_ (fun x x0 x1 hx => ?_) (by omega)))
      · have w := p5 k k0 g g2 ken (Or.inl ⟨g3, Int.le_refl _⟩)
        omega
      · refine ⟨hsf.1, fun u u0 u1 => by rw [hsf.2.1 u u0 u1]; exact p2 u u0 u1, fun x x0 x1 => ?_, by rw [hsf.2.2.1]; exact p4, fun x x0 x1 hx xe hor => ?_, fun e e0 e1 => ?_, p7⟩
        · by_cases c : x = k
          · rw [c, hD0]
            exact Int.le_refl _
          · have w := hsf.2.2.2.1 x x0 x1 c
            have w2 := p3 x x0 x1
            omega
        · have c : x ≠ k := by
            intro z
            rcases hor with w | w
            · omega
            · rw [z, g3] at w
              rcases hb with hb | hb
              · subst hb
                rw [fs_sv0] at w
                omega
              · subst hb
                rw [fs_sv1] at w
                omega
          rw [fs_sf_wt hn hb hsf x0 x1 c]
          refine p5 x x0 x1 hx xe ?_
          rcases hor with w | w
          · exact Or.inl ⟨w.1, by omega⟩
          · exact Or.inr w
        · have w := hsf.2.2.2.2 e e0 e1
          have w2 := p6 e e0 e1
          rcases w with w | w | w
          · rw [w]
            exact w2
          · rw [g3] at w
            refine Or.inr ?_
            rw [w.1, w.2, g3]
            rcases hb with hb | hb
            · subst hb
              rw [fs_sv0] at *
              rw [fs_sv0, fs_sg0]
              omega
            · subst hb
              rw [fs_sv1] at *
              rw [fs_sv1, fs_sg1]
              omega
          · rw [g3] at w
            refine Or.inr ?_
            rw [w.1, w.2, g3]
            rcases hb with hb | hb
            · subst hb
              rw [fs_sv0] at *
              rw [fs_sv0, fs_sg0]
              omega
            · subst hb
              rw [fs_sv1] at *
              rw [fs_sv1, fs_sg1]
              omega
      · by_cases c : x = k
        · rw [c, hD0] at hx
          omega
        · have w := hsf.2.2.2.1 x x0 x1 c
          rcases w with w | w
          · rw [w] at hx
            have w2 := h4 x x0 x1 hx
            refine ⟨w2.1, ?_⟩
            rcases w2.2 with w3 | w3
            · exact Or.inl ⟨w3.1, by omega⟩
            · exact Or.inr w3
          · rw [g3] at w
            exact ⟨w.2.1, Or.inr w.1⟩
theorem fs_sp_70 {c : Int32} (hn : fs_net m E F N ou) (hV : ∀ x, 0 ≤ x → x < 16 → -2 < V x ∧ V x < 1000) (hG : ∀ x, 0 ≤ x → x < 16 → Gn x = 0 ∨ Gn x = 1) (hb : b = 0 ∨ b = 1) (hc : c = fs_i (fs_sg b)) (A1 : A ≤ 1000) (e0 : 0 ≤ en) (e1 : en < 16)
    (hend : ∀ x, 0 ≤ x → x < 16 → Gn x = 0 → V x = V en → x = en)
    (H : ∀ L D, fs_lp m K L → (∀ u, 0 ≤ u → u < 16 → fs_m L (ou u) - fs_sv b (if u = en then A else 0) = Z u) → (∀ e, 0 ≤ e → e < m → L e = L0 e ∨ (0 ≤ fs_sv b (V (E e) - V stt) ∧ 0 ≤ fs_sv b (V (E (fs_x e)) - V stt))) → post (pr, so, sk, ed, fw, qf, qs, oc, a1, a2, a3, fs_a E, fs_a L, fs_a F, fs_a N, fs_a V, a9, a10, a11, a12, a13, a14, a15, fs_a Gn, fs_a D, a18, a19)) :
    ∀ (n : Nat) (l : Int) (L D : Int → Int), -2 < l → l < 1000 → fs_sp m b A E V Gn K ou Z L0 stt en l 0 L D → (∀ x, 0 ≤ x → x < 16 → 1 ≤ D x → Gn x = 0 ∧ V x = l) → 0 ≤ fs_sv b (V en - l) → fs_sv b (V en - l) < n →
      wX_spread_70 post (fs_i b) (fs_i en) c n (fs_i l) pr so sk ed fw qf qs oc a1 a2 a3 (fs_a E) (fs_a L) (fs_a F) (fs_a N) (fs_a V) a9 a10 a11 a12 a13 a14 a15 (fs_a Gn) (fs_a D) a18 a19 := by
  intro n
  induction n with
  | zero => intro l L D l0 l1 hsp h4 h5 h6; omega
  | succ n ih =>
    intro l L D l0 l1 hsp h4 h5 h6
    have hve := hV en e0 e1
    unfold wX_spread_70
    refine ⟨fs_in e0 (by omega), ?_⟩
    rw [fs_rd (L := V) e0 (by omega)]
    refine fs_eq l (V en) (fun g => ?_) (fun g => ⟨17, ?_⟩)
    · obtain ⟨p1, p2, p3, p4, p5, p6, p7⟩ := hsp
      have hz : ∀ x, 0 ≤ x → x < 16 → x ≠ en → D x = 0 := fun x x0 x1 xe => by
        have w := p3 x x0 x1
        rcases Int.lt_or_le (D x) 1 with z | z
        · omega
        · have w2 := h4 x x0 x1 z
          exact absurd (hend x x0 x1 w2.1 (by rw [w2.2, g])) xe
      have hA : D en = A := by
        rw [← fs_s_1 e0 e1 hz]
        exact p4
      refine H L D p1 (fun u u0 u1 => ?_) p6
      rw [← p2 u u0 u1]
      by_cases c : u = en
      · rw [if_pos c, c, hA]
      · rw [if_neg c, hz u u0 u1 c]
    · refine fs_sp_85 hn hV hG hb hc A1 l0 l1 g (fun L' D' hsp' h4' => ?_) 17 0 L D (by omega) (by omega) hsp (fun x x0 x1 hx => ⟨(h4 x x0 x1 hx).1, Or.inl ⟨(h4 x x0 x1 hx).2, x0⟩⟩) (by omega)
      obtain ⟨p1, p2, p3, p4, p5, p6, p7⟩ := hsp'
      rcases hb with hb | hb
      · subst hb
        rw [fs_sv0] at *
        rw [fs_sg0] at *
        refine ih (l + 1) L' D' (by omega) (by omega) ⟨p1, p2, p3, p4, fun x x0 x1 hx xe hor => p5 x x0 x1 hx xe (Or.inr ?_), p6, by rw [fs_sv0]; omega⟩ h4' (by rw [fs_sv0]; omega) (by rw [fs_sv0]; omega)
        rw [fs_sv0] at *
        omega
      · subst hb
        rw [fs_sv1] at *
        rw [fs_sg1] at *
        refine ih (l + -1) L' D' (by omega) (by omega) ⟨p1, p2, p3, p4, fun x x0 x1 hx xe hor => p5 x x0 x1 hx xe (Or.inr ?_), p6, by rw [fs_sv1]; omega⟩ h4' (by rw [fs_sv1]; omega) (by rw [fs_sv1]; omega)
        rw [fs_sv1] at *
        omega
theorem fs_sp_3 {s t : Int} {bb : Int32} (x0 : 0 ≤ stt) (x1 : stt < 16)
    (H : ∀ D : Int → Int, (∀ x, 0 ≤ x → x < 16 → D x = if x = stt then A else 0) → wX_spread_3 post (fs_i stt) (fs_i A) bb pr (fs_i s) (fs_i t) ed fw qf qs oc 1 16 a1 a2 a3 a4 a5 a6 a7 a8 a9 a10 a11 a12 a13 a14 a15 a16 (fs_a D) a18 a19) :
    ∀ (n : Nat) (k : Int) (D : Int → Int), 0 ≤ k → k ≤ 16 → (∀ x, 0 ≤ x → x < k → D x = if x = stt then A else 0) → 16 - k < n → wX_spread_3 post (fs_i stt) (fs_i A) bb pr (fs_i s) (fs_i t) ed fw qf qs oc n (fs_i k) a1 a2 a3 a4 a5 a6 a7 a8 a9 a10 a11 a12 a13 a14 a15 a16 (fs_a D) a18 a19 := by
  intro n
  induction n with
  | zero => intro k D k0 k1 _ h; omega
  | succ n ih =>
    intro k D k0 k1 hD h
    unfold wX_spread_3
    refine fs_le 16 k (fun g => ?_) (fun g => ?_)
    · have w := H D (fun x x0 x1 => hD x x0 (by omega))
      unfold wX_spread_3 at w
      exact w.1 (by decide)
    · refine fs_eq k stt (fun g2 => ⟨fs_in k0 (by omega), nm_r (e' := fs_a (fs_u D k A)) (fs_up k0 (by omega)) (nm_r (fs_p1 k) (ih (k + 1) _ (by omega) (by omega) (fun x x0 x1 => ?_) (by omega)))⟩) (fun g2 => ⟨fs_in k0 (by omega), nm_r (e' := fs_a (fs_u D k 0)) (fs_uq k0 (by omega)) (nm_r (fs_p1 k) (ih (k + 1) _ (by omega) (by omega) (fun x x0 x1 => ?_) (by omega)))⟩)
      · by_cases c : x = k
        · rw [c, fs_us, if_pos g2]
        · rw [fs_un c]
          exact hD x x0 (by omega)
      · by_cases c : x = k
        · rw [c, fs_us, if_neg g2]
        · rw [fs_un c]
          exact hD x x0 (by omega)
theorem fs_spr {s t : Int} {D0 : Int → Int} {bb : Int32} (hn : fs_net m E F N ou) (hV : ∀ x, 0 ≤ x → x < 16 → -2 < V x ∧ V x < 1000) (hG : ∀ x, 0 ≤ x → x < 16 → Gn x = 0 ∨ Gn x = 1) (hb : b = 0 ∨ b = 1) (hbb : bb = fs_i b) (A0 : 0 ≤ A) (A1 : A ≤ 1000) (x0 : 0 ≤ stt) (x1 : stt < 16) (hxg : Gn stt = 0) (e0 : 0 ≤ en) (e1 : en < 16) (he : en = if b = 0 then t else s)
    (hend : ∀ x, 0 ≤ x → x < 16 → Gn x = 0 → V x = V en → x = en) (hlp : fs_lp m K L0)
    (hcap : ∀ x, 0 ≤ x → x < 16 → Gn x = 0 → x ≠ en → 0 ≤ fs_sv b (V x - V stt) → A ≤ fs_m (fs_wt b E L0 V Gn x) (ou x)) (hle : 0 ≤ fs_sv b (V en - V stt))
    (H : ∀ L D, fs_lp m K L → (∀ u, 0 ≤ u → u < 16 → fs_m L (ou u) = fs_m L0 (ou u) - fs_sv b (if u = stt then A else 0) + fs_sv b (if u = en then A else 0)) → (∀ e, 0 ≤ e → e < m → L e = L0 e ∨ (0 ≤ fs_sv b (V (E e) - V stt) ∧ 0 ≤ fs_sv b (V (E (fs_x e)) - V stt))) → post (pr, fs_i s, fs_i t, ed, fw, qf, qs, oc, a1, a2, a3, fs_a E, fs_a L, fs_a F, fs_a N, fs_a V, a9, a10, a11, a12, a13, a14, a15, fs_a Gn, fs_a D, a18, a19)) :
    wpX_spread post (pr, fs_i s, fs_i t, ed, fw, qf, qs, oc, a1, a2, a3, fs_a E, fs_a L0, fs_a F, fs_a N, fs_a V, a9, a10, a11, a12, a13, a14, a15, fs_a Gn, fs_a D0, a18, a19) (fs_i stt) (fs_i A) bb := by
  subst hbb
  unfold wpX_spread
  dsimp only
  refine ⟨17, fs_sp_3 x0 x1 (fun D hD => ?_) 17 0 D0 (by omega) (by omega) (fun x x0 x1 => by omega) (by omega)⟩
  unfold wX_spread_3
  refine br_t (by decide) ?_
  have hvx := hV stt x0 x1
  have main : ∀ c : Int32, c = fs_i (fs_sg b) → ∃ fu, wX_spread_70 post (fs_i b) (fs_i en) c fu (fs_i (V stt)) pr (fs_i s) (fs_i t) ed fw qf qs oc a1 a2 a3 (fs_a E) (fs_a L0) (fs_a F) (fs_a N) (fs_a V) a9 a10 a11 a12 a13 a14 a15 (fs_a Gn) (fs_a D) a18 a19 := by
    intro c hc
    refine ⟨(fs_sv b (V en - V stt)).toNat + 1, fs_sp_70 (Z := fun u => fs_m L0 (ou u) - fs_sv b (D u)) (L0 := L0) (stt := stt) hn hV hG hb hc A1 e0 e1 hend (fun L D' h1 h2 h3 => H L D' h1 (fun u u0 u1 => ?_) h3) _ (V stt) L0 D hvx.1 hvx.2 ⟨hlp, fun _ _ _ => rfl, fun x x0 x1 => ?_, ?_, fun x x0 x1 hx xe hor => hcap x x0 x1 hx xe ?_, fun e _ _ => Or.inl rfl, ?_⟩ (fun x x0 x1 hx => ?_) hle (by omega)⟩
    · have w := h2 u u0 u1
      rw [hD u u0 u1] at w
      omega
    · rw [hD x x0 x1]
      split <;> omega
    · rw [fs_s_1 x0 x1 (fun x a b c => by rw [hD x a b, if_neg c]), hD stt x0 x1, if_pos rfl]
    · rcases hor with w | w
      · rw [w.1, Int.sub_self]
        unfold fs_sv
        split <;> omega
      · omega
    · rw [Int.sub_self]
      unfold fs_sv
      split <;> omega
    · rw [hD x x0 x1] at hx
      by_cases c : x = stt
      · rw [c]
        exact ⟨hxg, rfl⟩
      · rw [if_neg c] at hx
        omega
  rcases hb with hb | hb
  · subst hb
    rw [if_pos rfl] at he
    subst he
    refine br_t rfl ?_
    unfold wX_spread_49
    exact br_t rfl ⟨fs_in x0 (by omega), nm_r (fs_rd x0 (by omega)) (main 1 (by decide))⟩
  · subst hb
    rw [if_neg (by decide)] at he
    subst he
    refine br_f (by decide) ?_
    unfold wX_spread_49
    exact br_f (by decide) ⟨fs_in x0 (by omega), nm_r (fs_rd x0 (by omega)) (main (-1) (by decide))⟩
end
end
section
/-! part 09: engine 5: fillByWeakest, solveByWeakestNodes -/
theorem fs_pw_par {E C : Int → Int} {s : Int} {l : List Int} : ∀ {x : Int}, fs_pw E C s l x → ∀ y, y ∈ l → E (fs_x (C y)) = s ∨ E (fs_x (C y)) ∈ l := by
  induction l with
  | nil => intro x _ y hy; cases hy
  | cons z l ih =>
    intro x hp y hy
    have e : z = x := hp.1
    subst e
    rcases List.mem_cons.mp hy with g | g
    · rw [g]
      cases l with
      | nil => exact Or.inl hp.2.2
      | cons w l2 =>
        have e2 : w = E (fs_x (C z)) := hp.2.2.1
        exact Or.inr (by rw [← e2]; exact List.mem_cons_of_mem _ List.mem_cons_self)
    · rcases ih hp.2.2 y g with w | w
      · exact Or.inl w
      · exact Or.inr (List.mem_cons_of_mem _ w)
theorem fs_pw_chi {E C : Int → Int} {s : Int} {l : List Int} : ∀ {x : Int}, fs_pw E C s l x → ∀ y, (y = s ∨ y ∈ l) → y ≠ x → ∃ z, z ∈ l ∧ E (fs_x (C z)) = y := by
  induction l with
  | nil =>
    intro x hp y hy hne
    have e : x = s := hp
    rcases hy with g | g
    · exact absurd (by rw [g, e]) hne
    · cases g
  | cons z l ih =>
    intro x hp y hy hne
    have e : z = x := hp.1
    subst e
    by_cases c : y = E (fs_x (C z))
    · exact ⟨z, List.mem_cons_self, c.symm⟩
    · have hy2 : y = s ∨ y ∈ l := by
        rcases hy with g | g
        · exact Or.inl g
        · rcases List.mem_cons.mp g with w | w
          · exact absurd w hne
          · exact Or.inr w
      obtain ⟨w, w1, w2⟩ := ih hp.2.2 y hy2 c
      exact ⟨w, List.mem_cons_of_mem _ w1, w2⟩
/-- nodes that are not gone -/
def fs_ga (V Gn : Int → Int) (t : Int) : Prop := (∀ x, 0 ≤ x → x < 16 → Gn x = 0 ∨ Gn x = 1) ∧ (∀ x, 0 ≤ x → x < 16 → Gn x = 0 → 0 ≤ V x ∧ (x = t ∨ V x < V t))
section
variable {m s t fl0 : Int} {E F N K Cn V C L0 : Int → Int} {ou : Int → List Int} {pl : List Int}
theorem fs_prog {Gn : Int → Int} {b A : Int} (hn : fs_net m E F N ou) (hb : fs_bp m 1 E L0 ou s V C) (hlp : fs_lp m K L0) (hp : fs_pw E C s pl t) (t0 : 0 ≤ t) (t1 : t < 16) (ht : 0 ≤ V t)
    (hw : fs_wk s t E L0 V Gn ou b A) (hA : A ≤ 0) (hal : ∀ y, (y = s ∨ y ∈ pl) → Gn y = 0) : ∀ y, (y = s ∨ y ∈ pl) → y ≠ b := by
  intro y hy e
  subst e
  obtain ⟨b0, b1, bg, A0, A1, hio, _⟩ := hw
  have hv := fs_pw_v hn (fs_bp_tr hb) t0 t1 ht hp
  have nn : ∀ bb e, e ∈ ou y → 0 ≤ fs_wt bb E L0 V Gn y e := fun bb e he => (fs_wt_b hn hlp (fs_net_ou hn b0 b1 he).1 (fs_net_ou hn b0 b1 he).2.1).1
  rcases hio with h | h
  · unfold fs_io at h
    by_cases c : y = s
    · rw [if_pos c] at h
      omega
    · rw [if_neg c] at h
      have yl : y ∈ pl := hy.resolve_left c
      have w := hv y yl
      have a := hb.2.2.1 y w.1 w.2.1 w.2.2.1 c
      have r := fs_net_fr hn a.1 a.2.1
      have r3 := r.2.2
      rw [a.2.2.1] at r3
      have big := fs_m_p (fun e he => nn 1 e he) r3
      have val : fs_wt 1 E L0 V Gn y (fs_x (C y)) = L0 (C y) := by
        unfold fs_wt
        rw [fs_al1, fs_xx, fs_sg1, if_pos ⟨a.2.2.2.2.2, by omega, hal _ (fs_pw_par hp y yl)⟩]
      rw [val] at big
      omega
  · unfold fs_io at h
    by_cases c : y = t
    · rw [if_pos c] at h
      omega
    · rw [if_neg c] at h
      obtain ⟨z, zl, ze⟩ := fs_pw_chi hp y hy c
      have w := hv z zl
      have a := hb.2.2.1 z w.1 w.2.1 w.2.2.1 w.2.2.2.1
      have o := (fs_net_to hn a.1 a.2.1).2.2.2
      rw [ze] at o a
      have big := fs_m_p (fun e he => nn 0 e he) o
      have val : fs_wt 0 E L0 V Gn y (C z) = L0 (C z) := by
        unfold fs_wt
        rw [fs_al0, fs_sg0, if_pos ⟨a.2.2.2.2.2, by rw [a.2.2.1]; omega, by rw [a.2.2.1]; exact hal z (Or.inr zl)⟩]
      rw [val] at big
      omega
end
section
variable {m s t fl0 : Int} {E F N K Cn V C L0 : Int → Int} {ou : Int → List Int} {pl : List Int} {post : St2 → Prop} {pr so sk ed fw qf qs oc : Int32} {a1 a2 a3 a4 a5 a6 a7 a8 a9 a10 a11 a12 a13 a14 a15 a16 a17 a18 a19 : Nat → Int32}
theorem fs_fbw_0 (hn : fs_net m E F N ou) (hlen : ∀ u, 0 ≤ u → u < 16 → (ou u).length ≤ 3) (hb : fs_bp m 1 E L0 ou s V C) (hlp0 : fs_lp m K L0) (hp : fs_pw E C s pl t) (s0 : 0 ≤ s) (s1 : s < 16) (t0 : 0 ≤ t) (t1 : t < 16) (st : s ≠ t) (ht : 0 ≤ V t) (htp : t ∈ pl)
    (H : ∀ L Gn D fl, fs_vf m s t K L ou Cn fl → fl0 < fl → post (pr, fs_i s, fs_i t, ed, fs_i fl, qf, qs, oc, a1, a2, a3, fs_a E, fs_a L, fs_a F, fs_a N, fs_a V, a9, a10, a11, a12, a13, a14, a15, fs_a Gn, fs_a D, a18, a19)) :
    ∀ (n : Nat) (L Gn D : Int → Int) (fl : Int), fs_vf m s t K L ou Cn fl → fs_ga V Gn t → (fl0 < fl ∨ (fl = fl0 ∧ L = L0 ∧ ∀ y, (y = s ∨ y ∈ pl) → Gn y = 0)) → 16 - fs_s Gn 16 < n →
      wX_fillByWeakest_0 post n pr (fs_i s) (fs_i t) ed (fs_i fl) qf qs oc a1 a2 a3 (fs_a E) (fs_a L) (fs_a F) (fs_a N) (fs_a V) a9 a10 a11 a12 a13 a14 a15 (fs_a Gn) (fs_a D) a18 a19 := by
  have hV : ∀ x, 0 ≤ x → x < 16 → -2 < V x ∧ V x < 1000 := fun x x0 x1 => by
    have := hb.1 x x0 x1
    omega
  intro n
  induction n with
  | zero =>
    intro L Gn D fl hv hga hpr hl
    have := fs_s_k (f := Gn) (c := 1) (k := 16) (fun j j0 j1 => by
      have := hga.1 j j0 (by omega)
      omega)
    omega
  | succ n ih =>
    intro L Gn D fl hv hga hpr hl
    have gs := hga.1 s s0 s1
    have gt := hga.1 t t0 t1
    have out : (Gn s ≠ 0 ∨ Gn t ≠ 0) → fl0 < fl := fun h => by
      rcases hpr with w | ⟨_, _, w⟩
      · exact w
      · exfalso
        rcases h with h | h
        · exact h (w s (Or.inl rfl))
        · exact h (w t (Or.inr htp))
    unfold wX_fillByWeakest_0
    refine ⟨fs_in s0 (by omega), ?_⟩
    rw [fs_rd (L := Gn) s0 (by omega)]
    refine fs_eq (Gn s) 0 (fun g => ⟨fs_in t0 (by omega), ?_⟩) (fun g => H L Gn D fl hv (out (Or.inl g)))
    rw [fs_rd (L := Gn) t0 (by omega)]
    refine fs_eq (Gn t) 0 (fun g2 => ?_) (fun g2 => H L Gn D fl hv (out (Or.inr g2)))
    refine fs_wn (K := K) hn hv.1 hlen hV hga.1 s0 s1 t0 t1 st g (fun b A hw => ?_)
    have hw0 := hw
    obtain ⟨b0, b1, bg, A0, A1, hio, hmin⟩ := hw
    have rd0 : fs_a (fs_u D 0 A) 0 = fs_i A := by
      unfold fs_a
      rw [show (((0 : Nat) : Int)) = 0 from rfl, fs_us]
    have gsum : fs_s (fs_u Gn b 1) 16 = fs_s Gn 16 + 1 := by
      have w := fs_s_u (f := Gn) (g := fs_u Gn b 1) (k := 16) (x := b) b0 (by omega) (fun j _ _ c => fs_un c)
      rw [fs_us, bg] at w
      omega
    have ga' : fs_ga V (fs_u Gn b 1) t := by
      refine ⟨fun x x0 x1 => ?_, fun x x0 x1 hx => ?_⟩
      · by_cases c : x = b
        · rw [c, fs_us]
          exact Or.inr rfl
        · rw [fs_un c]
          exact hga.1 x x0 x1
      · by_cases c : x = b
        · rw [c, fs_us] at hx
          exact absurd hx (by decide)
        · rw [fs_un c] at hx
          exact hga.2 x x0 x1 hx
    refine nm_r rd0 (fs_le A 0 (fun g3 => ⟨fs_in b0 (by omega), nm_r (e' := fs_a (fs_u Gn b 1)) (fs_uq b0 (by omega)) (ih L (fs_u Gn b 1) _ fl hv ga' ?_ (by omega))⟩) (fun g3 => ?_))
    · rcases hpr with w | ⟨w0, w1, w2⟩
      · exact Or.inl w
      · refine Or.inr ⟨w0, w1, fun y hy => ?_⟩
        rw [w1] at hw0
        rw [fs_un (fs_prog hn hb hlp0 hp t0 t1 ht hw0 g3 w2 y hy)]
        exact w2 y hy
    · have vb := hga.2 b b0 b1 bg
      refine fs_spr (b := 0) (en := t) (A := A) (K := K) (stt := b) hn hV hga.1 (Or.inl rfl) rfl (by omega) (by omega) b0 b1 bg t0 t1 (by rw [if_pos rfl]) (fun x x0 x1 hx hxv => ?_) hv.1 (fun x x0 x1 hx xe _ => ?_) ?_ (fun L1 D1 hlp1 hm1 hch => ?_)
      · have w := hga.2 x x0 x1 hx
        omega
      · have w := (hmin x x0 x1 hx).2
        unfold fs_io at w
        rw [if_neg xe] at w
        exact w
      · rw [fs_sv0]
        rcases vb.2 with w | w
        · rw [w]
          omega
        · omega
      · refine fs_spr (b := 1) (en := s) (A := A) (K := K) (stt := b) hn hV hga.1 (Or.inr rfl) rfl (by omega) (by omega) b0 b1 bg s0 s1 (by rw [if_neg (by decide)]) (fun x x0 x1 hx hxv => ?_) hlp1 (fun x x0 x1 hx xe hlv => ?_) ?_ (fun L2 D2 hlp2 hm2 _ => nm_r (fs_add fl A) ⟨fs_in b0 (by omega), nm_r (e' := fs_a (fs_u Gn b 1)) (fs_uq b0 (by omega)) ?_⟩)
        · rw [hb.2.1] at hxv
          refine Classical.byContradiction (fun xs => ?_)
          have w := hb.2.2.1 x x0 x1 (by omega) xs
          omega
        · have w := (hmin x x0 x1 hx).1
          unfold fs_io at w
          rw [if_neg xe] at w
          rw [fs_sv1] at hlv
          rw [fs_m_c (L := fs_wt 1 E L1 V Gn x) (M := fs_wt 1 E L V Gn x) (fun e he => ?_)]
          · exact w
          · have eo := fs_net_ou hn x0 x1 he
            have ex := fs_net_x hn eo.1 eo.2.1
            unfold fs_wt
            rw [fs_al1, fs_sg1]
            by_cases c : V (E e) = V x + -1 ∧ Gn (E e) = 0
            · have ch := hch (fs_x e) ex.1 ex.2
              rw [fs_xx, fs_sv0, fs_sv0] at ch
              have same : L1 (fs_x e) = L (fs_x e) := by
                rcases ch with v | v
                · exact v
                · omega
              rw [same]
            · rw [if_neg (fun z => c z.2), if_neg (fun z => c z.2)]
        · rw [fs_sv1, hb.2.1]
          omega
        · refine ih L2 (fs_u Gn b 1) D2 (fl + A) ⟨hlp2, fun u u0 u1 ut => ?_⟩ ga' (Or.inl ?_) (by omega)
          · rw [hm2 u u0 u1, hm1 u u0 u1, hv.2 u u0 u1 ut, fs_sv1, fs_sv1, fs_sv0, fs_sv0, if_neg ut]
            split <;> split <;> omega
          · rcases hpr with w | ⟨w, _, _⟩ <;> omega
theorem fs_e5_10 {J : Int32 → Int32 → Int32 → Int32 → Int32 → Int32 → Int32 → Int32 → (Nat → Int32) → (Nat → Int32) → (Nat → Int32) → (Nat → Int32) → (Nat → Int32) → (Nat → Int32) → (Nat → Int32) → (Nat → Int32) → (Nat → Int32) → (Nat → Int32) → (Nat → Int32) → (Nat → Int32) → (Nat → Int32) → (Nat → Int32) → (Nat → Int32) → (Nat → Int32) → (Nat → Int32) → (Nat → Int32) → (Nat → Int32) → Prop}
    (hV : ∀ x, 0 ≤ x → x < 16 → -2 < V x ∧ V x < 1000) (t0 : 0 ≤ t) (t1 : t < 16)
    (H : ∀ Gn : Int → Int, (∀ x, 0 ≤ x → x < 16 → (Gn x = 1 ∨ (Gn x = 0 ∧ 0 ≤ V x ∧ (x = t ∨ V x < V t))) ∧ (0 ≤ V x → (x = t ∨ V x < V t) → Gn x = 0)) → wpX_fillByWeakest (fun u => match u with | (pr, so, sk, ed, fw, qf, qs, oc, a1, a2, a3, a4, a5, a6, a7, a8, a9, a10, a11, a12, a13, a14, a15, a16, a17, a18, a19) => J pr so sk ed fw qf qs oc a1 a2 a3 a4 a5 a6 a7 a8 a9 a10 a11 a12 a13 a14 a15 a16 a17 a18 a19) (pr, so, fs_i t, ed, fw, qf, qs, oc, a1, a2, a3, a4, a5, a6, a7, fs_a V, a9, a10, a11, a12, a13, a14, a15, fs_a Gn, a17, a18, a19)) :
    ∀ (n : Nat) (k : Int) (Gn : Int → Int), 0 ≤ k → k ≤ 16 → (∀ x, 0 ≤ x → x < k → (Gn x = 1 ∨ (Gn x = 0 ∧ 0 ≤ V x ∧ (x = t ∨ V x < V t))) ∧ (0 ≤ V x → (x = t ∨ V x < V t) → Gn x = 0)) → 16 - k < n → wX_solveByWeakestNodes_10 post J pr so (fs_i t) ed fw qf qs oc n (fs_i k) a1 a2 a3 a4 a5 a6 a7 (fs_a V) a9 a10 a11 a12 a13 a14 a15 (fs_a Gn) a17 a18 a19 := by
  intro n
  induction n with
  | zero => intro k Gn k0 k1 _ h; omega
  | succ n ih =>
    intro k Gn k0 k1 hG h
    unfold wX_solveByWeakestNodes_10
    refine fs_le 16 k (fun g => H Gn (fun x x0 x1 => hG x x0 (by omega))) (fun g => ⟨fs_in k0 (by omega), ?_⟩)
    have vk := hV k k0 g
    have vt := hV t t0 t1
    have nx : ∀ z, ((z = 1 ∨ (z = 0 ∧ 0 ≤ V k ∧ (k = t ∨ V k < V t))) ∧ (0 ≤ V k → (k = t ∨ V k < V t) → z = 0)) → wX_solveByWeakestNodes_10 post J pr so (fs_i t) ed fw qf qs oc n (fs_i (k + 1)) a1 a2 a3 a4 a5 a6 a7 (fs_a V) a9 a10 a11 a12 a13 a14 a15 (fs_a (fs_u Gn k z)) a17 a18 a19 := fun z hz =>
      ih (k + 1) _ (by omega) (by omega) (fun x x0 x1 => by
        by_cases c : x = k
        · rw [c, fs_us]
          exact hz
        · rw [fs_un c]
          exact hG x x0 (by omega)) (by omega)
    rw [fs_rd (L := V) k0 (by omega), fs_rd (L := V) t0 (by omega)]
    refine fs_lt (V k) 0 (fun g2 => ⟨fs_in k0 (by omega), nm_r (e' := fs_a (fs_u Gn k 1)) (fs_uq k0 (by omega)) (nm_r (fs_p1 k) (nx 1 ⟨Or.inl rfl, fun z => by omega⟩))⟩) (fun g2 => ?_)
    refine fs_eq k t (fun g3 => ⟨fs_in k0 (by omega), nm_r (e' := fs_a (fs_u Gn k 0)) (fs_uq k0 (by omega)) (nm_r (fs_p1 k) (nx 0 ⟨Or.inr ⟨rfl, g2, Or.inl g3⟩, fun _ _ => rfl⟩))⟩) (fun g3 => ⟨fs_in k0 (by omega), fs_in t0 (by omega), ?_⟩)
    refine fs_lt (V k) (V t) (fun g4 => ⟨fs_in k0 (by omega), nm_r (e' := fs_a (fs_u Gn k 0)) (fs_uq k0 (by omega)) (nm_r (fs_p1 k) (nx 0 ⟨Or.inr ⟨rfl, g2, Or.inr g4⟩, fun _ _ => rfl⟩))⟩) (fun g4 => ⟨fs_in k0 (by omega), nm_r (e' := fs_a (fs_u Gn k 1)) (fs_uq k0 (by omega)) (nm_r (fs_p1 k) (nx 1 ⟨Or.inl rfl, fun _ z => ?_⟩))⟩)
    rcases z with z | z
    · exact absurd z g3
    · omega
theorem fs_e5_0 (hn : fs_net m E F N ou) (hlen : ∀ u, 0 ≤ u → u < 16 → (ou u).length ≤ 3) (s0 : 0 ≤ s) (s1 : s < 16) (t0 : 0 ≤ t) (t1 : t < 16) (st : s ≠ t)
    (H : fs_ok post pr (fs_i s) (fs_i t) ed a1 a2 a3 (fs_a E) (fs_a F) (fs_a N) (fs_mx m s t K E ou Cn)) :
    ∀ (n : Nat) (L V C Q D G P : Int → Int) (fl : Int) (qf qs : Int32), fs_vf m s t K L ou Cn fl → Cn s - fl < n →
      wX_solveByWeakestNodes_0 post n pr (fs_i s) (fs_i t) ed (fs_i fl) qf qs oc a1 a2 a3 (fs_a E) (fs_a L) (fs_a F) (fs_a N) (fs_a V) a9 (fs_a C) a11 a12 (fs_a Q) (fs_a D) a15 (fs_a G) (fs_a P) a18 a19 := by
  intro n
  induction n with
  | zero =>
    intro L V C Q D G P fl qf qs hv h
    have := fs_vf_b hn hv s0 s1 st
    omega
  | succ n ih =>
    intro L V C Q D G P fl qf qs hv h
    unfold wX_solveByWeakestNodes_0
    refine fs_fl (least := 1) hn hv.1 s0 s1 t0 t1 (by omega) (by omega) (fun rr V' C' f' r' Q' D' hb hr => ?_)
    rcases hr with ⟨e, g⟩ | ⟨e, g⟩
    · exact br_t e (H _ _ _ _ _ _ _ _ _ _ _ _ _ _ _ _ _ ⟨L, hv, fs_bp_cl hb g⟩)
    · have hV : ∀ x, 0 ≤ x → x < 16 → -2 < V' x ∧ V' x < 1000 := fun x x0 x1 => by
        have := hb.1 x x0 x1
        omega
      refine br_f (by rw [e]; decide) ⟨17, fs_e5_10 hV t0 t1 (fun G' hG => ?_) 17 0 G (by omega) (by omega) (fun x x0 x1 => by omega) (by omega)⟩
      obtain ⟨pl, hpl⟩ := fs_pw_ex hn (fs_bp_tr hb) ((V' t).toNat + 1) t t0 t1 g (by omega)
      have htp : t ∈ pl := by
        cases pl with
        | nil => exact absurd (show t = s from hpl) (fun z => st z.symm)
        | cons z l =>
          rw [show z = t from hpl.1]
          exact List.mem_cons_self
      unfold wpX_fillByWeakest
      dsimp only
      refine ⟨(16 - fs_s G' 16).toNat + 1, fs_fbw_0 (fl0 := fl) hn hlen hb hv.1 hpl s0 s1 t0 t1 st g htp (fun L2 G2 D2 fl2 hv2 hlt => ih L2 V' C' Q' D' G2 D2 fl2 _ _ hv2 (by omega)) _ L G' P fl hv ⟨fun x x0 x1 => ?_, fun x x0 x1 hx => ?_⟩ (Or.inr ⟨rfl, rfl, fun y hy => ?_⟩) (by omega)⟩
      · have w := (hG x x0 x1).1
        omega
      · have w := (hG x x0 x1).1
        rcases w with w | w
        · omega
        · exact w.2
      · rcases hy with hy | hy
        · rw [hy]
          refine (hG s s0 s1).2 (by rw [hb.2.1]; exact Int.le_refl _) (Or.inr ?_)
          have w := hb.2.2.1 t t0 t1 g (fun z => st z.symm)
          rw [hb.2.1]
          omega
        · have w := fs_pw_v hn (fs_bp_tr hb) t0 t1 g hpl y hy
          refine (hG y w.1 w.2.1).2 w.2.2.1 ?_
          cases pl with
          | nil => cases hy
          | cons z l =>
            have ez : z = t := hpl.1
            rcases List.mem_cons.mp hy with v | v
            · exact Or.inl (by rw [v, ez])
            · have a := fs_bp_tr hb t t0 t1 g (fun z => st z.symm)
              have r := fs_net_fr hn a.1 a.2.1
              have w2 := fs_pw_v hn (fs_bp_tr hb) r.1 r.2.1 a.2.2.2.1 hpl.2.2 y v
              exact Or.inr (by omega)
theorem fs_e5 (hn : fs_net m E F N ou) (hlen : ∀ u, 0 ≤ u → u < 16 → (ou u).length ≤ 3) (s0 : 0 ≤ s) (s1 : s < 16) (t0 : 0 ≤ t) (t1 : t < 16) (st : s ≠ t) (hv : fs_vf m s t K L0 ou Cn 0)
    (H : fs_ok post pr (fs_i s) (fs_i t) ed a1 a2 a3 (fs_a E) (fs_a F) (fs_a N) (fs_mx m s t K E ou Cn)) :
    wpX_solveByWeakestNodes post (pr, fs_i s, fs_i t, ed, fs_i 0, qf, qs, oc, a1, a2, a3, fs_a E, fs_a L0, fs_a F, fs_a N, a8, a9, a10, a11, a12, a13, a14, a15, a16, a17, a18, a19) := by
  unfold wpX_solveByWeakestNodes
  dsimp only
  obtain ⟨V, rfl⟩ := fs_all a8
  obtain ⟨C, rfl⟩ := fs_all a10
  obtain ⟨Q, rfl⟩ := fs_all a13
  obtain ⟨D, rfl⟩ := fs_all a14
  obtain ⟨G, rfl⟩ := fs_all a16
  obtain ⟨P, rfl⟩ := fs_all a17
  exact ⟨(Cn s).toNat + 1, fs_e5_0 hn hlen s0 s1 t0 t1 st H _ L0 V C Q D G P 0 qf qs hv (by omega)⟩
end
end
section
/-! part 10: pushing: the pure side -/
def fs_ct (V : Int → Int) (h : Int) : Int := fs_s (fun x => if V x = h then 1 else 0) 16
theorem fs_ct_u {V : Int → Int} {u z h : Int} (u0 : 0 ≤ u) (u1 : u < 16) : fs_ct (fs_u V u z) h = fs_ct V h - (if V u = h then 1 else 0) + (if z = h then 1 else 0) := by
  unfold fs_ct
  rw [fs_s_u (f := fun x => if V x = h then 1 else 0) (x := u) (k := 16) u0 (by omega) (fun j _ _ g => by rw [fs_un g])]
  rw [fs_us]
theorem fs_ct_0 {V : Int → Int} {h : Int} (hz : fs_ct V h = 0) {x : Int} (x0 : 0 ≤ x) (x1 : x < 16) : V x ≠ h := by
  intro e
  have w := fs_s_p (f := fun x => if V x = h then 1 else 0) (k := 16) (fun j _ _ => by split <;> omega) x0 (by omega)
  rw [if_pos e] at w
  unfold fs_ct at hz
  omega
theorem fs_ct_n (V : Int → Int) (h : Int) : 0 ≤ fs_ct V h := fs_s_0 (fun j _ _ => by split <;> omega)
theorem fs_s_a (f g : Int → Int) (k : Nat) : fs_s (fun x => f x + g x) k = fs_s f k + fs_s g k := by
  induction k with
  | zero => rfl
  | succ k ih =>
    unfold fs_s
    rw [ih]
    omega
/-- some height between the sink's and the source's is left out -/
theorem fs_gap {V : Int → Int} {s t : Int} (s0 : 0 ≤ s) (s1 : s < 16) (t0 : 0 ≤ t) (t1 : t < 16) (st : s ≠ t) (hs : V s = 16) (ht : V t = 0) : ∃ h, 1 ≤ h ∧ h ≤ 15 ∧ fs_ct V h = 0 := by
  refine Classical.byContradiction (fun hno => ?_)
  have all : ∀ h, 1 ≤ h → h ≤ 15 → 1 ≤ fs_ct V h := fun h h0 h1 => by
    have w := fs_ct_n V h
    rcases Int.lt_or_le (fs_ct V h) 1 with z | z
    · exact absurd ⟨h, h0, h1, by omega⟩ hno
    · exact z
  have key : ∀ k : Nat, k ≤ 15 → (k : Int) ≤ fs_s (fun x => if 1 ≤ V x ∧ V x ≤ k then 1 else 0) 16 := by
    intro k
    induction k with
    | zero =>
      intro _
      exact fs_s_0 (fun j _ _ => by split <;> omega)
    | succ k ih =>
      intro hk
      have a := ih (by omega)
      have b := all (k + 1) (by omega) (by omega)
      unfold fs_ct at b
      have c := fs_s_a (fun x => if 1 ≤ V x ∧ V x ≤ k then 1 else 0) (fun x => if V x = (k : Int) + 1 then 1 else 0) 16
      have d := fs_s_c (f := fun x => if 1 ≤ V x ∧ V x ≤ ((k + 1 : Nat) : Int) then (1 : Int) else 0) (g := fun x => (if 1 ≤ V x ∧ V x ≤ k then 1 else 0) + (if V x = (k : Int) + 1 then 1 else 0)) (k := 16) (fun j _ _ => by
        rw [show ((k + 1 : Nat) : Int) = (k : Int) + 1 by omega]
        by_cases c1 : V j = (k : Int) + 1
        · rw [if_pos c1, if_pos (by omega), if_neg (by omega)]
          rfl
        · rw [if_neg c1]
          by_cases c2 : 1 ≤ V j ∧ V j ≤ k
          · rw [if_pos c2, if_pos (by omega)]
            rfl
          · rw [if_neg c2, if_neg (by omega)]
            rfl)
      rw [d, c]
      omega
  have k15 := key 15 (by omega)
  have w := fs_s_v (f := fun _ => (1 : Int)) (g := fun x => if x = s ∨ x = t then 0 else 1) (k := 16) (x := s) (y := t) s0 (by omega) t0 (by omega) st (fun j _ _ c1 c2 => by rw [if_neg (fun z => z.elim c1 c2)])
  rw [if_pos (Or.inl rfl), if_pos (Or.inr rfl), show fs_s (fun _ => (1 : Int)) 16 = 16 from rfl] at w
  have v := fs_s_le (f := fun x => if 1 ≤ V x ∧ V x ≤ ((15 : Nat) : Int) then (1 : Int) else 0) (g := fun x => if x = s ∨ x = t then 0 else 1) (k := 16) (fun j _ _ => by
    by_cases c : j = s ∨ j = t
    · rw [if_pos c]
      rcases c with c | c
      · rw [c, hs, if_neg (by omega)]
        exact Int.le_refl _
      · rw [c, ht, if_neg (by omega)]
        exact Int.le_refl _
    · rw [if_neg c]
      split <;> omega)
  omega
/-- the state of a pushing engine -/
def fs_pv (m s t : Int) (E K Cn cap : Int → Int) (ou : Int → List Int) (L X V Hh : Int → Int) : Prop :=
  fs_lp m K L ∧ (∀ u, 0 ≤ u → u < 16 → fs_m L (ou u) = Cn u + X u) ∧ (∀ x, 0 ≤ x → x < 16 → x ≠ s → 0 ≤ X x) ∧
  (∀ e, 0 ≤ e → e < m → 1 ≤ L e → V (E (fs_x e)) ≤ V (E e) + 1) ∧ V s = 16 ∧ V t = 0 ∧ (∀ x, 0 ≤ x → x < 16 → 0 ≤ V x ∧ V x ≤ cap x) ∧
  fs_s X 16 = 0 ∧ (∀ h, 0 ≤ h → h < 64 → Hh h = fs_ct V h)
/-- what a network grants: caps on heights, and the sums at the start -/
def fs_cp (m s t : Int) (E K Cn cap : Int → Int) (ou : Int → List Int) : Prop :=
  cap s = 16 ∧ cap t = 0 ∧ (∀ x, 0 ≤ x → x < 16 → x ≠ s → x ≠ t → 17 ≤ cap x ∧ cap x ≤ 20) ∧ (∀ x, 0 ≤ x → x < 16 → 0 ≤ Cn x ∧ (ou x).length ≤ 3) ∧
  (∀ L x, fs_lp m K L → 0 ≤ x → x < 16 → x ≠ s → x ≠ t → Cn x < fs_m L (ou x) → ∃ e, e ∈ ou x ∧ 1 ≤ L e ∧ cap (E e) + 1 ≤ cap x)
def fs_pe (s t : Int) (X V : Int → Int) (x : Int) : Int := if x = s ∨ x = t then 0 else X x * V x + 298 * (20 - V x)
def fs_ph (s t : Int) (X V : Int → Int) : Int := fs_s (fs_pe s t X V) 16
section
variable {m s t : Int} {E F N K Cn cap L X V Hh : Int → Int} {ou : Int → List Int}
theorem fs_cp_b (hc : fs_cp m s t E K Cn cap ou) {x : Int} (x0 : 0 ≤ x) (x1 : x < 16) : cap x ≤ 20 := by
  by_cases c : x = s
  · rw [c, hc.1]
    decide
  · by_cases c2 : x = t
    · rw [c2, hc.2.1]
      decide
    · exact (hc.2.2.1 x x0 x1 c c2).2
theorem fs_pv_V (hc : fs_cp m s t E K Cn cap ou) (h : fs_pv m s t E K Cn cap ou L X V Hh) {x : Int} (x0 : 0 ≤ x) (x1 : x < 16) : 0 ≤ V x ∧ V x ≤ 20 := by
  have a := h.2.2.2.2.2.2.1 x x0 x1
  have b := fs_cp_b hc x0 x1
  omega
theorem fs_pv_X (hn : fs_net m E F N ou) (hc : fs_cp m s t E K Cn cap ou) (h : fs_pv m s t E K Cn cap ou L X V Hh) {x : Int} (x0 : 0 ≤ x) (x1 : x < 16) : X x ≤ 297 := by
  have a := h.2.1 x x0 x1
  have b := fs_m_b hn h.1 x0 x1
  have c := hc.2.2.2.1 x x0 x1
  omega
theorem fs_ph_0 (hc : fs_cp m s t E K Cn cap ou) (h : fs_pv m s t E K Cn cap ou L X V Hh) : 0 ≤ fs_ph s t X V := by
  refine fs_s_0 (fun x x0 x1 => ?_)
  unfold fs_pe
  split
  · exact Int.le_refl _
  · rename_i c
    have a := fs_pv_V hc h x0 (by omega)
    have b := h.2.2.1 x x0 (by omega) (fun z => c (Or.inl z))
    have d := Int.mul_nonneg b a.1
    omega
/-- a push along an admissible edge -/
theorem fs_ph_push {u v a : Int} (u0 : 0 ≤ u) (u1 : u < 16) (v0 : 0 ≤ v) (v1 : v < 16) (hne : v ≠ u) (us : u ≠ s) (ut : u ≠ t) (ha : 0 ≤ a) (hV : V u = V v + 1) (hv : 0 ≤ V v) :
    fs_ph s t (fs_u (fs_u X u (X u - a)) v (X v + a)) V ≤ fs_ph s t X V - a := by
  unfold fs_ph
  have w := fs_s_v (f := fs_pe s t X V) (g := fs_pe s t (fs_u (fs_u X u (X u - a)) v (X v + a)) V) (k := 16) (x := u) (y := v) u0 (by omega) v0 (by omega) (fun z => hne z.symm) (fun j _ _ c1 c2 => by
    unfold fs_pe
    rw [fs_un c2, fs_un c1])
  have e1 : fs_pe s t (fs_u (fs_u X u (X u - a)) v (X v + a)) V u = (X u - a) * V u + 298 * (20 - V u) := by
    unfold fs_pe
    rw [if_neg (fun z => z.elim us ut), fs_un (fun z => hne z.symm), fs_us]
  have e2 : fs_pe s t X V u = X u * V u + 298 * (20 - V u) := by
    unfold fs_pe
    rw [if_neg (fun z => z.elim us ut)]
  have m1 : (X u - a) * V u = X u * V u - a * V u := Int.sub_mul _ _ _
  have m2 : a * V u = a * V v + a := by rw [hV, Int.mul_add, Int.mul_one]
  have m3 := Int.mul_nonneg ha hv
  have e3 : fs_pe s t (fs_u (fs_u X u (X u - a)) v (X v + a)) V v ≤ fs_pe s t X V v + a * V v := by
    unfold fs_pe
    by_cases c : v = s ∨ v = t
    · rw [if_pos c, if_pos c]
      omega
    · rw [if_neg c, if_neg c, fs_us, Int.add_mul]
      omega
  omega
/-- a node that rises -/
theorem fs_ph_rise {u z : Int} (u0 : 0 ≤ u) (u1 : u < 16) (us : u ≠ s) (ut : u ≠ t) (hX : X u ≤ 297) (hz : V u < z) :
    fs_ph s t X (fs_u V u z) ≤ fs_ph s t X V - 1 := by
  unfold fs_ph
  have w := fs_s_u (f := fs_pe s t X V) (g := fs_pe s t X (fs_u V u z)) (k := 16) (x := u) u0 (by omega) (fun j _ _ c => by
    unfold fs_pe
    rw [fs_un c])
  have e1 : fs_pe s t X (fs_u V u z) u = X u * z + 298 * (20 - z) := by
    unfold fs_pe
    rw [if_neg (fun z => z.elim us ut), fs_us]
  have e2 : fs_pe s t X V u = X u * V u + 298 * (20 - V u) := by
    unfold fs_pe
    rw [if_neg (fun z => z.elim us ut)]
  have m1 : (298 - X u) * (z - V u) = 298 * z - 298 * V u - (X u * z - X u * V u) := by
    rw [Int.sub_mul, Int.mul_sub, Int.mul_sub]
  have m2 : 0 < (298 - X u) * (z - V u) := Int.mul_pos (by omega) (by omega)
  omega
/-- the state after a push -/
theorem fs_pv_push {u e a : Int} (hn : fs_net m E F N ou) (h : fs_pv m s t E K Cn cap ou L X V Hh) (u0 : 0 ≤ u) (u1 : u < 16) (he : e ∈ ou u) (ha : 0 ≤ a) (hal : a ≤ L e) (hau : u = s ∨ a ≤ X u) (hadm : V u = V (E e) + 1) :
    fs_pv m s t E K Cn cap ou (fs_mv L e a) (fs_u (fs_u X u (X u - a)) (E e) (X (E e) + a)) V Hh := by
  obtain ⟨p1, p2, p3, p4, p5, p6, p7, p8, p9⟩ := h
  have eo := fs_net_ou hn u0 u1 he
  have et := fs_net_to hn eo.1 eo.2.1
  have hne : E e ≠ u := by
    have w := et.2.2.1
    rw [eo.2.2] at w
    exact w
  refine ⟨fs_mv_lp hn p1 eo.1 eo.2.1 ha hal, fun x x0 x1 => ?_, fun x x0 x1 xs => ?_, fun f f0 f1 hf => ?_, p5, p6, p7, ?_, p9⟩
  · rw [fs_mv_m hn eo.1 eo.2.1 x0 x1, p2 x x0 x1, eo.2.2]
    by_cases c : x = E e
    · rw [c, fs_us, if_neg hne, if_pos rfl]
      omega
    · rw [fs_un c, if_neg c]
      by_cases c2 : x = u
      · rw [c2, fs_us, if_pos rfl]
        omega
      · rw [fs_un c2, if_neg c2]
        omega
  · by_cases c : x = E e
    · have w := p3 x x0 x1 xs
      rw [c] at w
      rw [c, fs_us]
      omega
    · rw [fs_un c]
      by_cases c2 : x = u
      · rw [c2, fs_us]
        rcases hau with z | z
        · exact absurd (by rw [c2, z]) xs
        · omega
      · rw [fs_un c2]
        exact p3 x x0 x1 xs
  · by_cases c : f = fs_x e
    · rw [c, fs_xx, eo.2.2]
      omega
    · by_cases c2 : f = e
      · rw [c2, fs_mv_e] at hf
        rw [c2]
        exact p4 e eo.1 eo.2.1 (by omega)
      · rw [fs_mv_o c2 c] at hf
        exact p4 f f0 f1 hf
  · have w := fs_s_v (f := X) (g := fs_u (fs_u X u (X u - a)) (E e) (X (E e) + a)) (k := 16) (x := u) (y := E e) u0 (by omega) et.1 (by omega) (fun z => hne z.symm) (fun j _ _ c1 c2 => by rw [fs_un c2, fs_un c1])
    rw [fs_us, fs_un (fun z => hne z.symm), fs_us] at w
    omega
/-- the heights' counts after a node's height has changed -/
theorem fs_hh {u z : Int} (hH : ∀ h, 0 ≤ h → h < 64 → Hh h = fs_ct V h) (u0 : 0 ≤ u) (u1 : u < 16) (hne : z ≠ V u) : ∀ h, 0 ≤ h → h < 64 → fs_u (fs_u Hh (V u) (Hh (V u) - 1)) z (Hh z + 1) h = fs_ct (fs_u V u z) h := by
  intro h h0 h1
  rw [fs_ct_u u0 u1, ← hH h h0 h1]
  by_cases c : h = z
  · rw [c, fs_us, if_neg (fun y => hne y.symm), if_pos rfl]
    omega
  · rw [fs_un c, if_neg (show ¬ z = h from fun y => c y.symm)]
    by_cases c2 : h = V u
    · rw [c2, fs_us, if_pos rfl]
      omega
    · rw [fs_un c2, if_neg (show ¬ V u = h from fun y => c2 y.symm)]
      omega
/-- the state after a node has risen -/
theorem fs_pv_rise {u z : Int} (hn : fs_net m E F N ou) (h : fs_pv m s t E K Cn cap ou L X V Hh) (u0 : 0 ≤ u) (u1 : u < 16) (us : u ≠ s) (ut : u ≠ t) (hz : V u < z) (hzc : z ≤ cap u) (hl : ∀ e, e ∈ ou u → 1 ≤ L e → z ≤ V (E e) + 1) :
    fs_pv m s t E K Cn cap ou L X (fs_u V u z) (fs_u (fs_u Hh (V u) (Hh (V u) - 1)) z (Hh z + 1)) := by
  obtain ⟨p1, p2, p3, p4, p5, p6, p7, p8, p9⟩ := h
  refine ⟨p1, p2, p3, fun e e0 e1 he => ?_, by rw [fs_un (fun y => us y.symm)]; exact p5, by rw [fs_un (fun y => ut y.symm)]; exact p6, fun x x0 x1 => ?_, p8, fs_hh p9 u0 u1 (by omega)⟩
  · have a := p4 e e0 e1 he
    have et := fs_net_to hn e0 e1
    by_cases c : E (fs_x e) = u
    · have c2 : E e ≠ u := fun y => et.2.2.1 (by rw [c, y])
      rw [c, fs_us, fs_un c2]
      exact hl e (by rw [← c]; exact et.2.2.2) he
    · rw [fs_un c]
      by_cases c2 : E e = u
      · rw [c2] at a
        rw [c2, fs_us]
        omega
      · rw [fs_un c2]
        exact a
  · have w := p7 u u0 u1
    by_cases c : x = u
    · rw [c, fs_us]
      omega
    · rw [fs_un c]
      exact p7 x x0 x1
/-- no node has too much: a greatest flow -/
theorem fs_pv_end (h : fs_pv m s t E K Cn cap ou L X V Hh) (hn : fs_net m E F N ou) (s0 : 0 ≤ s) (s1 : s < 16) (t0 : 0 ≤ t) (t1 : t < 16) (st : s ≠ t) (hx : ∀ x, 0 ≤ x → x < 16 → x ≠ s → x ≠ t → X x ≤ 0) : fs_mx m s t K E ou Cn (X t) := by
  obtain ⟨p1, p2, p3, p4, p5, p6, p7, p8, p9⟩ := h
  have hz : ∀ x, 0 ≤ x → x < 16 → x ≠ s → x ≠ t → X x = 0 := fun x x0 x1 a b => by
    have w1 := hx x x0 x1 a b
    have w2 := p3 x x0 x1 a
    omega
  have hst : X s = - X t := by
    have w := fs_s_v (f := fun _ => (0 : Int)) (g := X) (k := 16) (x := s) (y := t) s0 (by omega) t0 (by omega) st (fun j j0 j1 a b => hz j j0 (by omega) a b)
    rw [show fs_s (fun _ => (0 : Int)) 16 = 0 from rfl] at w
    omega
  obtain ⟨g, g0, g1, gz⟩ := fs_gap s0 s1 t0 t1 st p5 p6
  refine ⟨L, ⟨p1, fun u u0 u1 ut => ?_⟩, ⟨fun x => g < V x, by show g < V s; omega, by show ¬ g < V t; omega, fun x x0 x1 hgx e he hl => ?_⟩⟩
  · rw [p2 u u0 u1]
    by_cases c : u = s
    · rw [if_pos c, c, hst]
      omega
    · rw [if_neg c, hz u u0 u1 c ut]
      omega
  · have eo := fs_net_ou hn x0 x1 he
    have et := fs_net_to hn eo.1 eo.2.1
    have a := p4 e eo.1 eo.2.1 hl
    have b := fs_ct_0 gz et.1 et.2.1
    rw [eo.2.2] at a
    have c : g < V x := hgx
    show g < V (E e)
    omega
end
end
section
/-! part 11: pushing: pushAlong, discharge, raise -/
section
variable {m s t : Int} {E F N K Cn cap : Int → Int} {ou : Int → List Int} {post : St2 → Prop} {pr so sk ed fw qf qs oc : Int32} {a1 a2 a3 a4 a5 a6 a7 a8 a9 a10 a11 a12 a13 a14 a15 a16 a17 a18 a19 : Nat → Int32}
theorem fs_push {q : List Int} {f r u e a : Int} {Q D L X : Int → Int} {p0 p1 p2 : Int32} (hn : fs_net m E F N ou) (hq : fs_q f r Q D q) (s0 : 0 ≤ s) (s1 : s < 16) (t0 : 0 ≤ t) (t1 : t < 16) (u0 : 0 ≤ u) (u1 : u < 16) (he : e ∈ ou u) (ha : 0 ≤ a) (ha1 : a < 1000000)
    (H : ∀ r' Q' D' q', fs_q f r' Q' D' q' → ((1 ≤ a ∧ E e ≠ s ∧ E e ≠ t) → ∀ y, y ∈ q' ↔ y ∈ q ∨ y = E e) → (¬ (1 ≤ a ∧ E e ≠ s ∧ E e ≠ t) → q' = q) →
      post (pr, fs_i s, fs_i t, ed, fw, fs_i f, fs_i r', oc, a1, a2, a3, fs_a E, fs_a (fs_mv L e a), a6, a7, a8, a9, a10, fs_a (fs_u (fs_u X u (X u - a)) (E e) (X (E e) + a)), a12, fs_a Q', fs_a D', a15, a16, a17, a18, a19))
    (h0 : p0 = fs_i u := by rfl) (h1 : p1 = fs_i e := by rfl) (h2 : p2 = fs_i a := by rfl) :
    wpX_pushAlong post (pr, fs_i s, fs_i t, ed, fw, fs_i f, fs_i r, oc, a1, a2, a3, fs_a E, fs_a L, a6, a7, a8, a9, a10, fs_a X, a12, fs_a Q, fs_a D, a15, a16, a17, a18, a19) p0 p1 p2 := by
  subst h0 h1 h2
  have hm := fs_net_m hn
  have eo := fs_net_ou hn u0 u1 he
  have et := fs_net_to hn eo.1 eo.2.1
  have hne : E e ≠ u := by
    have w := et.2.2.1
    rw [eo.2.2] at w
    exact w
  unfold wpX_pushAlong
  dsimp only
  refine ⟨fs_in eo.1 (by omega), nm_r (fs_rd eo.1 (by omega)) (fs_move (e := e) (x := a) eo.1 (by omega) ?_)⟩
  dsimp only
  refine ⟨fs_in u0 (by omega), fs_in u0 (by omega), nm_r (e' := fs_a (fs_u X u (X u - a))) (by rw [fs_rd u0 (by omega), fs_sub, fs_up u0 (by omega)]) ⟨fs_in et.1 (by omega), fs_in et.1 (by omega), nm_r (e' := fs_a (fs_u (fs_u X u (X u - a)) (E e) (X (E e) + a))) (by rw [fs_rd et.1 (by omega), fs_un hne, fs_add, fs_up et.1 (by omega)]) ?_⟩⟩
  refine fs_le a 0 (fun g => H r Q D q hq (fun z => absurd z.1 (by omega)) (fun _ => rfl)) (fun g => ?_)
  refine fs_eq (E e) s (fun g2 => H r Q D q hq (fun z => absurd g2 z.2.1) (fun _ => rfl)) (fun g2 => ?_)
  refine fs_eq (E e) t (fun g3 => H r Q D q hq (fun z => absurd g3 z.2.2) (fun _ => rfl)) (fun g3 => ?_)
  exact fs_enq hq et.1 et.2.1 (fun r' Q' D' q' hq' hqe => H r' Q' D' q' hq' (fun _ => (fs_ifm hqe).1) (fun z => absurd ⟨by omega, g2, g3⟩ z))
/-- what a discharge of node u may change -/
def fs_dr (s t u : Int) (V X0 : Int → Int) (q0 : List Int) (ph : Int) (X : Int → Int) (q : List Int) : Prop :=
  fs_ph s t X V + (X0 u - X u) ≤ ph ∧ (∀ y, y ∈ q0 → y ∈ q) ∧ (∀ y, y ∈ q → y ∈ q0 ∨ (y ≠ s ∧ y ≠ t ∧ y ≠ u ∧ 1 ≤ X y)) ∧
  (∀ y, 0 ≤ y → y < 16 → y ≠ s → y ≠ t → y ≠ u → X y = X0 y ∨ y ∈ q) ∧ (∀ y, 0 ≤ y → y < 16 → y ≠ s → y ≠ u → X0 y ≤ X y) ∧ X u ≤ X0 u
theorem fs_dc_7 {f u ph : Int} {V Hh X0 : Int → Int} {q0 : List Int} (hn : fs_net m E F N ou) (hcp : fs_cp m s t E K Cn cap ou) (s0 : 0 ≤ s) (s1 : s < 16) (t0 : 0 ≤ t) (t1 : t < 16) (u0 : 0 ≤ u) (u1 : u < 16) (us : u ≠ s) (ut : u ≠ t)
    (H : ∀ L X r Q D q, fs_pv m s t E K Cn cap ou L X V Hh → fs_q f r Q D q → fs_dr s t u V X0 q0 ph X q → (X u = 0 ∨ ∀ e, e ∈ ou u → 1 ≤ L e → V u ≠ V (E e) + 1) →
      post (pr, fs_i s, fs_i t, ed, fw, fs_i f, fs_i r, oc, a1, a2, a3, fs_a E, fs_a L, fs_a F, fs_a N, fs_a V, a9, a10, fs_a X, fs_a Hh, fs_a Q, fs_a D, a15, a16, a17, a18, a19)) :
    ∀ (n : Nat) (l : List Int) (e : Int) (L X : Int → Int) (r : Int) (Q D : Int → Int) (q : List Int), fs_ch N l e → (∀ x, x ∈ l → x ∈ ou u) → fs_pv m s t E K Cn cap ou L X V Hh → fs_q f r Q D q → fs_dr s t u V X0 q0 ph X q → (X u = 0 ∨ ∀ e, e ∈ ou u → e ∉ l → 1 ≤ L e → V u ≠ V (E e) + 1) → l.length < n →
      wX_discharge_7 post (fs_i u) n (fs_i e) pr (fs_i s) (fs_i t) ed fw (fs_i f) (fs_i r) oc a1 a2 a3 (fs_a E) (fs_a L) (fs_a F) (fs_a N) (fs_a V) a9 a10 (fs_a X) (fs_a Hh) (fs_a Q) (fs_a D) a15 a16 a17 a18 a19 := by
  intro n
  induction n with
  | zero => intro l e L X r Q D q _ _ _ _ _ _ h; omega
  | succ n ih =>
    intro l e L X r Q D q hc hs hpv hq hdr hbl hl
    unfold wX_discharge_7
    have xb := fs_pv_X hn hcp hpv u0 u1
    have x0 := hpv.2.2.1 u u0 u1 us
    cases l with
    | nil =>
      have he : e = -1 := hc
      subst he
      refine fs_lt (-1) 0 (fun _ => H L X r Q D q hpv hq hdr ?_) (fun g => absurd g (by omega))
      rcases hbl with w | w
      · exact Or.inl w
      · exact Or.inr (fun e he => w e he (fun z => by cases z))
    | cons x l =>
      have he : e = x := hc.1
      subst he
      rw [List.length_cons] at hl
      have hm := fs_net_m hn
      have hmem := hs e List.mem_cons_self
      have eo := fs_net_ou hn u0 u1 hmem
      have et := fs_net_to hn eo.1 eo.2.1
      have lb := fs_lp_b hn hpv.1 eo.1 eo.2.1
      have vu := fs_pv_V hcp hpv u0 u1
      have ve := fs_pv_V hcp hpv et.1 et.2.1
      have hne : E e ≠ u := by
        have w := et.2.2.1
        rw [eo.2.2] at w
        exact w
      refine fs_lt e 0 (fun g => absurd g (by omega)) (fun _ => ⟨fs_in u0 (by omega), ?_⟩)
      rw [fs_rd (L := X) u0 (by omega)]
      refine fs_le (X u) 0 (fun g => H L X r Q D q hpv hq hdr (Or.inl (by omega))) (fun g => ⟨fs_in eo.1 (by omega), nm_r (fs_rd eo.1 (by omega)) ⟨fs_in eo.1 (by omega), ?_⟩⟩)
      have hbl2 := hbl.resolve_left (by omega)
      have skip : (1 ≤ L e → V u ≠ V (E e) + 1) → vp_in (fs_i e) 56 ∧ ∀ y : Int32, y = fs_a N (fs_i e).toNatClampNeg → wX_discharge_7 post (fs_i u) n y pr (fs_i s) (fs_i t) ed fw (fs_i f) (fs_i r) oc a1 a2 a3 (fs_a E) (fs_a L) (fs_a F) (fs_a N) (fs_a V) a9 a10 (fs_a X) (fs_a Hh) (fs_a Q) (fs_a D) a15 a16 a17 a18 a19 := fun hno =>
        ⟨fs_in eo.1 (by omega), nm_r (fs_rd eo.1 (by omega)) (ih l (N e) L X r Q D q hc.2 (fun y hy => hs y (List.mem_cons_of_mem _ hy)) hpv hq hdr (Or.inr (fun y hy yl => by
          by_cases c : y = e
          · rw [c]
            exact hno
          · exact hbl2 y hy (fun z => by
              rcases List.mem_cons.mp z with w | w
              · exact c w
              · exact yl w))) (by omega))⟩
      have push : ∀ a, 1 ≤ a → a ≤ X u → a ≤ L e → (a = X u ∨ a = L e) → V u = V (E e) + 1 → wX_discharge_83 post (wX_discharge_7 post (fs_i u) n) (fs_i u) (fs_i e) (fs_i a) pr (fs_i s) (fs_i t) ed fw (fs_i f) (fs_i r) oc a1 a2 a3 (fs_a E) (fs_a L) (fs_a F) (fs_a N) (fs_a V) a9 a10 (fs_a X) (fs_a Hh) (fs_a Q) (fs_a D) a15 a16 a17 a18 a19 := by
        intro a b0 b1 b2 b3 hadm
        unfold wX_discharge_83
        refine fs_push (a := a) hn hq s0 s1 t0 t1 u0 u1 hmem (by omega) (by omega) (fun r' Q' D' q' hq' hin hno => ⟨fs_in eo.1 (by omega), nm_r (fs_rd eo.1 (by omega)) ?_⟩)
        have hpv' := fs_pv_push hn hpv u0 u1 hmem (by omega) b2 (Or.inr b1) hadm
        have hph := fs_ph_push (X := X) (V := V) (a := a) u0 u1 et.1 et.2.1 hne us ut (by omega) hadm ve.1
        have Xu : fs_u (fs_u X u (X u - a)) (E e) (X (E e) + a) u = X u - a := by rw [fs_un (fun z => hne z.symm), fs_us]
        obtain ⟨d1, d2, d3, d4, d5, d6⟩ := hdr
        have Xge : ∀ y, y ≠ u → X y ≤ fs_u (fs_u X u (X u - a)) (E e) (X (E e) + a) y := fun y yu => by
          by_cases c : y = E e
          · rw [c, fs_us]
            omega
          · rw [fs_un c, fs_un yu]
            exact Int.le_refl _
        have qin : ∀ y, y ∈ q → y ∈ q' := fun y hy => by
          by_cases c : 1 ≤ a ∧ E e ≠ s ∧ E e ≠ t
          · exact (hin c y).mpr (Or.inl hy)
          · rw [hno c]
            exact hy
        refine ih l (N e) _ _ r' Q' D' q' hc.2 (fun y hy => hs y (List.mem_cons_of_mem _ hy)) hpv' hq' ⟨?_, fun y hy => qin y (d2 y hy), fun y hy => ?_, fun y y0 y1 ys yt yu => ?_, fun y y0 y1 ys yu => ?_, by rw [Xu]; omega⟩ ?_ (by omega)
        · rw [Xu]
          omega
        · have old : y ∈ q → y ∈ q0 ∨ (y ≠ s ∧ y ≠ t ∧ y ≠ u ∧ 1 ≤ fs_u (fs_u X u (X u - a)) (E e) (X (E e) + a) y) := fun hy => by
            rcases d3 y hy with w | w
            · exact Or.inl w
            · have w2 := Xge y w.2.2.1
              exact Or.inr ⟨w.1, w.2.1, w.2.2.1, by omega⟩
          by_cases c : 1 ≤ a ∧ E e ≠ s ∧ E e ≠ t
          · rcases (hin c y).mp hy with w | w
            · exact old w
            · have w2 := hpv.2.2.1 (E e) et.1 et.2.1 c.2.1
              rw [w, fs_us]
              exact Or.inr ⟨c.2.1, c.2.2, hne, by omega⟩
          · rw [hno c] at hy
            exact old hy
        · by_cases c : y = E e
          · refine Or.inr ((hin ⟨b0, by rw [← c]; exact ys, by rw [← c]; exact yt⟩ y).mpr (Or.inr c))
          · rw [fs_un c, fs_un yu]
            rcases d4 y y0 y1 ys yt yu with w | w
            · exact Or.inl w
            · exact Or.inr (qin y w)
        · have w := d5 y y0 y1 ys yu
          have w2 := Xge y yu
          omega
        · rw [Xu]
          rcases b3 with w | w
          · exact Or.inl (by omega)
          · refine Or.inr (fun y hy yl hy1 => ?_)
            by_cases c : y = e
            · rw [c, fs_mv_e] at hy1
              omega
            · have yo := fs_net_ou hn u0 u1 hy
              rw [fs_mv_o c (fun z => hne (by
                have w9 := yo.2.2
                rw [z, fs_xx] at w9
                exact w9))] at hy1
              exact hbl2 y hy (fun z => by
                rcases List.mem_cons.mp z with w | w
                · exact c w
                · exact yl w) hy1
      rw [fs_rd (L := L) eo.1 (by omega), fs_rd (L := V) u0 (by omega), fs_rd (L := V) et.1 (by omega), fs_p1]
      refine fs_le (L e) 0 (fun g2 => skip (fun z => absurd z (by omega))) (fun g2 => ⟨fs_in u0 (by omega), fs_in et.1 (by omega), ?_⟩)
      refine fs_eq (V u) (V (E e) + 1) (fun g3 => ⟨fs_in eo.1 (by omega), fs_in u0 (by omega), ?_⟩) (fun g3 => skip (fun _ => g3))
      exact fs_le (X u) (L e) (fun g4 => ⟨fs_in u0 (by omega), push (X u) (by omega) (Int.le_refl _) g4 (Or.inl rfl) g3⟩) (fun g4 => ⟨fs_in eo.1 (by omega), push (L e) (by omega) (by omega) (Int.le_refl _) (Or.inr rfl) g3⟩)
theorem fs_dc {f r u : Int} {L V Hh X Q D : Int → Int} {q : List Int} (hn : fs_net m E F N ou) (hcp : fs_cp m s t E K Cn cap ou) (s0 : 0 ≤ s) (s1 : s < 16) (t0 : 0 ≤ t) (t1 : t < 16) (u0 : 0 ≤ u) (u1 : u < 16) (us : u ≠ s) (ut : u ≠ t) (hpv : fs_pv m s t E K Cn cap ou L X V Hh) (hq : fs_q f r Q D q)
    (H : ∀ L' X' r' Q' D' q', fs_pv m s t E K Cn cap ou L' X' V Hh → fs_q f r' Q' D' q' → fs_dr s t u V X q (fs_ph s t X V) X' q' → (X' u = 0 ∨ ∀ e, e ∈ ou u → 1 ≤ L' e → V u ≠ V (E e) + 1) →
      post (pr, fs_i s, fs_i t, ed, fw, fs_i f, fs_i r', oc, a1, a2, a3, fs_a E, fs_a L', fs_a F, fs_a N, fs_a V, a9, a10, fs_a X', fs_a Hh, fs_a Q', fs_a D', a15, a16, a17, a18, a19)) :
    wpX_discharge post (pr, fs_i s, fs_i t, ed, fw, fs_i f, fs_i r, oc, a1, a2, a3, fs_a E, fs_a L, fs_a F, fs_a N, fs_a V, a9, a10, fs_a X, fs_a Hh, fs_a Q, fs_a D, a15, a16, a17, a18, a19) (fs_i u) := by
  unfold wpX_discharge
  dsimp only
  exact ⟨fs_in u0 (by omega), nm_r (fs_rd u0 (by omega)) ⟨(ou u).length + 1, fs_dc_7 hn hcp s0 s1 t0 t1 u0 u1 us ut H _ (ou u) (F u) L X r Q D q (fs_net_ch hn u0 u1) (fun x hx => hx) hpv hq ⟨by omega, fun y hy => hy, fun y hy => Or.inl hy, fun y _ _ _ _ _ => Or.inl rfl, fun y _ _ _ _ => Int.le_refl _, Int.le_refl _⟩ (Or.inr (fun e he hne => absurd he hne)) (by omega)⟩⟩
theorem fs_rs_10 {u : Int} {L V X Hh : Int → Int} (hn : fs_net m E F N ou) (hcp : fs_cp m s t E K Cn cap ou) (hpv : fs_pv m s t E K Cn cap ou L X V Hh) (u0 : 0 ≤ u) (u1 : u < 16) (us : u ≠ s) (ut : u ≠ t) (hX : 1 ≤ X u) (hna : ∀ e, e ∈ ou u → 1 ≤ L e → V u ≠ V (E e) + 1)
    (H : ∀ z, V u < z → fs_pv m s t E K Cn cap ou L X (fs_u V u z) (fs_u (fs_u Hh (V u) (Hh (V u) - 1)) z (Hh z + 1)) → fs_ph s t X (fs_u V u z) ≤ fs_ph s t X V - 1 →
      post (pr, so, sk, ed, fw, qf, qs, oc, a1, a2, a3, fs_a E, fs_a L, fs_a F, fs_a N, fs_a (fs_u V u z), a9, a10, fs_a X, fs_a (fs_u (fs_u Hh (V u) (Hh (V u) - 1)) z (Hh z + 1)), a13, a14, a15, a16, a17, a18, a19)) :
    ∀ (n : Nat) (l : List Int) (e w : Int), fs_ch N l e → (∀ x, x ∈ l → x ∈ ou u) → 0 ≤ w → w ≤ 32 → (∀ e, e ∈ ou u → e ∉ l → 1 ≤ L e → w ≤ V (E e)) → (w = 32 ∨ ∃ e, e ∈ ou u ∧ 1 ≤ L e ∧ w = V (E e)) → l.length < n →
      wX_raise_10 post (fs_i u) pr so sk ed fw qf qs oc a1 a2 a3 (fs_a E) (fs_a L) (fs_a F) (fs_a N) (fs_a V) a9 a10 (fs_a X) (fs_a Hh) a13 a14 a15 a16 a17 a18 a19 n (fs_i w) (fs_i e) := by
  intro n
  have vu := fs_pv_V hcp hpv u0 u1
  induction n with
  | zero => intro l e w _ _ _ _ _ _ h; omega
  | succ n ih =>
    intro l e w hc hs w0 w1 hlo hex hl
    unfold wX_raise_10
    cases l with
    | nil =>
      have he : e = -1 := hc
      subst he
      have hx2 := hpv.2.1 u u0 u1
      obtain ⟨e0, e0m, e0l, e0c⟩ := hcp.2.2.2.2 L u hpv.1 u0 u1 us ut (by omega)
      have e0o := fs_net_ou hn u0 u1 e0m
      have e0t := fs_net_to hn e0o.1 e0o.2.1
      have e0v := hpv.2.2.2.2.2.2.1 (E e0) e0t.1 e0t.2.1
      have hlo2 : ∀ e, e ∈ ou u → 1 ≤ L e → w ≤ V (E e) := fun e he => hlo e he (fun z => by cases z)
      have hw := hlo2 e0 e0m e0l
      have hcb := fs_cp_b hcp u0 u1
      have hge : V u ≤ w := by
        rcases hex with z | ⟨e, em, el, ee⟩
        · omega
        · have eo := fs_net_ou hn u0 u1 em
          have a := hpv.2.2.2.1 e eo.1 eo.2.1 el
          have b := hna e em el
          rw [eo.2.2] at a
          omega
      have hpv' := fs_pv_rise (z := w + 1) hn hpv u0 u1 us ut (by omega) (by omega) (fun e he hle => by
        have := hlo2 e he hle
        omega)
      have hxb := fs_pv_X hn hcp hpv u0 u1
      have hph := fs_ph_rise (s := s) (t := t) (X := X) (V := V) (z := w + 1) u0 u1 us ut hxb (by omega)
      refine fs_lt (-1) 0 (fun _ => ⟨fs_in u0 (by omega), ?_⟩) (fun g => absurd g (by omega))
      rw [fs_rd (L := V) u0 (by omega)]
      refine ⟨fs_in vu.1 (by omega), fs_in vu.1 (by omega), nm_r (e' := fs_a (fs_u Hh (V u) (Hh (V u) - 1))) (by rw [fs_rd vu.1 (by omega), fs_m1, fs_up vu.1 (by omega)]) ⟨fs_in u0 (by omega), nm_r (e' := fs_a (fs_u V u (w + 1))) (by rw [fs_p1, fs_up u0 (by omega)]) ⟨fs_in u0 (by omega), ?_⟩⟩⟩
      rw [fs_rd (L := fs_u V u (w + 1)) u0 (by omega), fs_us]
      refine ⟨fs_in (by omega) (by omega), fs_in (by omega) (by omega), nm_r (e' := fs_a (fs_u (fs_u Hh (V u) (Hh (V u) - 1)) (w + 1) (Hh (w + 1) + 1))) (by rw [fs_rd (by omega) (by omega), fs_un (by omega), fs_p1, fs_up (by omega) (by omega)]) (H (w + 1) (by omega) hpv' hph)⟩
    | cons x l =>
      have he : e = x := hc.1
      subst he
      rw [List.length_cons] at hl
      have hm := fs_net_m hn
      have hmem := hs e List.mem_cons_self
      have eo := fs_net_ou hn u0 u1 hmem
      have et := fs_net_to hn eo.1 eo.2.1
      have lb := fs_lp_b hn hpv.1 eo.1 eo.2.1
      have ve := fs_pv_V hcp hpv et.1 et.2.1
      have nx : ∀ w', 0 ≤ w' → w' ≤ w → (1 ≤ L e → w' ≤ V (E e)) → (w' = 32 ∨ ∃ e, e ∈ ou u ∧ 1 ≤ L e ∧ w' = V (E e)) → vp_in (fs_i e) 56 ∧ ∀ y : Int32, y = fs_a N (fs_i e).toNatClampNeg → wX_raise_10 post (fs_i u) pr so sk ed fw qf qs oc a1 a2 a3 (fs_a E) (fs_a L) (fs_a F) (fs_a N) (fs_a V) a9 a10 (fs_a X) (fs_a Hh) a13 a14 a15 a16 a17 a18 a19 n (fs_i w') y := fun w' h0 h1 h2 h3 =>
        ⟨fs_in eo.1 (by omega), nm_r (fs_rd eo.1 (by omega)) (ih l (N e) w' hc.2 (fun y hy => hs y (List.mem_cons_of_mem _ hy)) h0 (by omega) (fun y hy yl hy1 => by
          by_cases c : y = e
          · rw [c]
            rw [c] at hy1
            exact h2 hy1
          · have := hlo y hy (fun z => by
              rcases List.mem_cons.mp z with w | w
              · exact c w
              · exact yl w) hy1
            omega) h3 (by omega))⟩
      refine fs_lt e 0 (fun g => absurd g (by omega)) (fun _ => ⟨fs_in eo.1 (by omega), nm_r (fs_rd eo.1 (by omega)) ⟨fs_in eo.1 (by omega), ?_⟩⟩)
      rw [fs_rd (L := L) eo.1 (by omega), fs_rd (L := V) et.1 (by omega)]
      refine fs_le (L e) 0 (fun g => ?_) (fun g => ⟨fs_in et.1 (by omega), ?_⟩)
      · unfold wX_raise_52
        exact nx w w0 (Int.le_refl _) (fun z => by omega) hex
      · refine fs_le w (V (E e)) (fun g2 => ?_) (fun g2 => ⟨fs_in et.1 (by omega), nm_e (nx (V (E e)) ve.1 (by omega) (fun _ => Int.le_refl _) (Or.inr ⟨e, hmem, by omega, rfl⟩))⟩)
        unfold wX_raise_52
        exact nx w w0 (Int.le_refl _) (fun _ => g2) hex
theorem fs_rs {u : Int} {L V X Hh : Int → Int} (hn : fs_net m E F N ou) (hcp : fs_cp m s t E K Cn cap ou) (hpv : fs_pv m s t E K Cn cap ou L X V Hh) (u0 : 0 ≤ u) (u1 : u < 16) (us : u ≠ s) (ut : u ≠ t) (hX : 1 ≤ X u) (hna : ∀ e, e ∈ ou u → 1 ≤ L e → V u ≠ V (E e) + 1)
    (H : ∀ V' Hh', fs_pv m s t E K Cn cap ou L X V' Hh' → fs_ph s t X V' ≤ fs_ph s t X V - 1 →
      post (pr, so, sk, ed, fw, qf, qs, oc, a1, a2, a3, fs_a E, fs_a L, fs_a F, fs_a N, fs_a V', a9, a10, fs_a X, fs_a Hh', a13, a14, a15, a16, a17, a18, a19)) :
    wpX_raise post (pr, so, sk, ed, fw, qf, qs, oc, a1, a2, a3, fs_a E, fs_a L, fs_a F, fs_a N, fs_a V, a9, a10, fs_a X, fs_a Hh, a13, a14, a15, a16, a17, a18, a19) (fs_i u) := by
  unfold wpX_raise
  dsimp only
  exact ⟨fs_in u0 (by omega), nm_r (fs_rd u0 (by omega)) ⟨(ou u).length + 1, fs_rs_10 hn hcp hpv u0 u1 us ut hX hna (fun z _ h1 h2 => H _ _ h1 h2) _ (ou u) (F u) 32 (fs_net_ch hn u0 u1) (fun x hx => hx) (by omega) (by omega) (fun e he hne => absurd he hne) (Or.inl rfl) (by omega)⟩⟩
end
end
section
/-! part 12: pushing: the start, engine 2 -/
/-- the state while the source pushes all it can -/
def fs_p0 (m s : Int) (K Cn : Int → Int) (ou : Int → List Int) (L X : Int → Int) : Prop :=
  fs_lp m K L ∧ (∀ u, 0 ≤ u → u < 16 → fs_m L (ou u) = Cn u + X u) ∧ (∀ x, 0 ≤ x → x < 16 → x ≠ s → 0 ≤ X x) ∧ fs_s X 16 = 0
def fs_v0 (s : Int) : Int → Int := fun x => if x = s then 16 else 0
/-- the queue holds just the nodes that have too much (but for u) -/
def fs_qi (s t u : Int) (X : Int → Int) (q : List Int) : Prop :=
  (∀ y, y ∈ q → y ≠ s ∧ y ≠ t ∧ 1 ≤ X y) ∧ ∀ y, 0 ≤ y → y < 16 → y ≠ s → y ≠ t → y ≠ u → 1 ≤ X y → y ∈ q
section
variable {m s t : Int} {E F N K Cn cap : Int → Int} {ou : Int → List Int}
theorem fs_p0_push {L X : Int → Int} {e : Int} (hn : fs_net m E F N ou) (h : fs_p0 m s K Cn ou L X) (s0 : 0 ≤ s) (s1 : s < 16) (he : e ∈ ou s) :
    fs_p0 m s K Cn ou (fs_mv L e (L e)) (fs_u (fs_u X s (X s - L e)) (E e) (X (E e) + L e)) := by
  obtain ⟨p1, p2, p3, p8⟩ := h
  have eo := fs_net_ou hn s0 s1 he
  have et := fs_net_to hn eo.1 eo.2.1
  have lb := fs_lp_b hn p1 eo.1 eo.2.1
  have hne : E e ≠ s := by
    have w := et.2.2.1
    rw [eo.2.2] at w
    exact w
  refine ⟨fs_mv_lp hn p1 eo.1 eo.2.1 lb.1 (Int.le_refl _), fun x x0 x1 => ?_, fun x x0 x1 xs => ?_, ?_⟩
  · rw [fs_mv_m hn eo.1 eo.2.1 x0 x1, p2 x x0 x1, eo.2.2]
    by_cases c : x = E e
    · rw [c, fs_us, if_neg hne, if_pos rfl]
      omega
    · rw [fs_un c, if_neg c]
      by_cases c2 : x = s
      · rw [c2, fs_us, if_pos rfl]
        omega
      · rw [fs_un c2, if_neg c2]
        omega
  · by_cases c : x = E e
    · have w := p3 x x0 x1 xs
      rw [c] at w
      rw [c, fs_us]
      omega
    · rw [fs_un c, fs_un xs]
      exact p3 x x0 x1 xs
  · have w := fs_s_v (f := X) (g := fs_u (fs_u X s (X s - L e)) (E e) (X (E e) + L e)) (k := 16) (x := s) (y := E e) s0 (by omega) et.1 (by omega) (fun z => hne z.symm) (fun j _ _ c1 c2 => by rw [fs_un c2, fs_un c1])
    rw [fs_us, fs_un (fun z => hne z.symm), fs_us] at w
    omega
theorem fs_p0_pv {L X Hh : Int → Int} (hn : fs_net m E F N ou) (hcp : fs_cp m s t E K Cn cap ou) (st : s ≠ t) (h : fs_p0 m s K Cn ou L X) (hz : ∀ e, e ∈ ou s → L e = 0) (hH : ∀ g, 0 ≤ g → g < 64 → Hh g = fs_ct (fs_v0 s) g) : fs_pv m s t E K Cn cap ou L X (fs_v0 s) Hh := by
  obtain ⟨p1, p2, p3, p8⟩ := h
  refine ⟨p1, p2, p3, fun e e0 e1 he => ?_, if_pos rfl, if_neg (fun z => st z.symm), fun x x0 x1 => ?_, p8, hH⟩
  · have et := fs_net_to hn e0 e1
    unfold fs_v0
    by_cases c : E (fs_x e) = s
    · have w := hz e (by rw [← c]; exact et.2.2.2)
      omega
    · rw [if_neg c]
      split <;> omega
  · unfold fs_v0
    by_cases c : x = s
    · rw [if_pos c, c, hcp.1]
      omega
    · rw [if_neg c]
      by_cases c2 : x = t
      · rw [c2, hcp.2.1]
        omega
      · have := hcp.2.2.1 x x0 x1 c c2
        omega
theorem fs_ph_st {X : Int → Int} : fs_ph s t X (fs_v0 s) ≤ 95360 := by
  have w := fs_s_k (f := fs_pe s t X (fs_v0 s)) (c := 5960) (k := 16) (fun x _ _ => by
    unfold fs_pe fs_v0
    by_cases c : x = s ∨ x = t
    · rw [if_pos c]
      decide
    · rw [if_neg c, if_neg (fun z => c (Or.inl z)), Int.mul_zero]
      decide)
  unfold fs_ph
  omega
end
section
variable {m s t : Int} {E F N K Cn cap : Int → Int} {ou : Int → List Int} {post : St2 → Prop} {pr so sk ed fw qf qs oc : Int32} {a1 a2 a3 a4 a5 a6 a7 a8 a9 a10 a11 a12 a13 a14 a15 a16 a17 a18 a19 : Nat → Int32}
theorem fs_st_91 (hn : fs_net m E F N ou) (s0 : 0 ≤ s) (s1 : s < 16) (t0 : 0 ≤ t) (t1 : t < 16)
    (H : ∀ L X f r Q D q, fs_p0 m s K Cn ou L X → (∀ e, e ∈ ou s → L e = 0) → fs_q f r Q D q → fs_qi s t s X q → post (pr, fs_i s, fs_i t, ed, fw, fs_i f, fs_i r, oc, a1, a2, a3, fs_a E, fs_a L, fs_a F, fs_a N, a8, a9, a10, fs_a X, a12, fs_a Q, fs_a D, a15, a16, a17, a18, a19)) :
    ∀ (n : Nat) (l : List Int) (e : Int) (L X : Int → Int) (f r : Int) (Q D : Int → Int) (q : List Int), fs_ch N l e → (∀ x, x ∈ l → x ∈ ou s) → fs_p0 m s K Cn ou L X → (∀ e, e ∈ ou s → e ∉ l → L e = 0) → fs_q f r Q D q → fs_qi s t s X q → l.length < n →
      wX_startPushing_91 post n (fs_i e) pr (fs_i s) (fs_i t) ed fw (fs_i f) (fs_i r) oc a1 a2 a3 (fs_a E) (fs_a L) (fs_a F) (fs_a N) a8 a9 a10 (fs_a X) a12 (fs_a Q) (fs_a D) a15 a16 a17 a18 a19 := by
  intro n
  induction n with
  | zero => intro l e L X f r Q D q _ _ _ _ _ _ h; omega
  | succ n ih =>
    intro l e L X f r Q D q hc hs hp hz hq hqi hl
    unfold wX_startPushing_91
    cases l with
    | nil =>
      have he : e = -1 := hc
      subst he
      exact fs_lt (-1) 0 (fun _ => H L X f r Q D q hp (fun e he => hz e he (fun z => by cases z)) hq hqi) (fun g => absurd g (by omega))
    | cons x l =>
      have he : e = x := hc.1
      subst he
      rw [List.length_cons] at hl
      have hm := fs_net_m hn
      have hmem := hs e List.mem_cons_self
      have eo := fs_net_ou hn s0 s1 hmem
      have et := fs_net_to hn eo.1 eo.2.1
      have lb := fs_lp_b hn hp.1 eo.1 eo.2.1
      have hne : E e ≠ s := by
        have w := et.2.2.1
        rw [eo.2.2] at w
        exact w
      refine fs_lt e 0 (fun g => absurd g (by omega)) (fun _ => ⟨fs_in eo.1 (by omega), ?_⟩)
      refine fs_push (a := L e) hn hq s0 s1 t0 t1 s0 s1 hmem lb.1 (by omega) (fun r' Q' D' q' hq' hin hno => ⟨fs_in eo.1 (by omega), nm_r (fs_rd eo.1 (by omega)) ?_⟩) rfl rfl (fs_rd eo.1 (by omega))
      have Xge : ∀ y, y ≠ s → X y ≤ fs_u (fs_u X s (X s - L e)) (E e) (X (E e) + L e) y := fun y yu => by
        by_cases c : y = E e
        · rw [c, fs_us]
          omega
        · rw [fs_un c, fs_un yu]
          exact Int.le_refl _
      refine ih l (N e) _ _ f r' Q' D' q' hc.2 (fun y hy => hs y (List.mem_cons_of_mem _ hy)) (fs_p0_push hn hp s0 s1 hmem) (fun y hy yl => ?_) hq' ⟨fun y hy => ?_, fun y y0 y1 ys yt _ hy => ?_⟩ (by omega)
      · by_cases c : y = e
        · rw [c, fs_mv_e]
          omega
        · have yo := fs_net_ou hn s0 s1 hy
          rw [fs_mv_o c (fun z => hne (by
            have w9 := yo.2.2
            rw [z, fs_xx] at w9
            exact w9))]
          exact hz y hy (fun z => by
            rcases List.mem_cons.mp z with w | w
            · exact c w
            · exact yl w)
      · have old : y ∈ q → y ≠ s ∧ y ≠ t ∧ 1 ≤ fs_u (fs_u X s (X s - L e)) (E e) (X (E e) + L e) y := fun hy => by
          have w := hqi.1 y hy
          have w2 := Xge y w.1
          exact ⟨w.1, w.2.1, by omega⟩
        by_cases c : 1 ≤ L e ∧ E e ≠ s ∧ E e ≠ t
        · rcases (hin c y).mp hy with w | w
          · exact old w
          · have w2 := hp.2.2.1 (E e) et.1 et.2.1 c.2.1
            rw [w, fs_us]
            exact ⟨c.2.1, c.2.2, by omega⟩
        · rw [hno c] at hy
          exact old hy
      · by_cases c : y = E e
        · by_cases c2 : 1 ≤ L e ∧ E e ≠ s ∧ E e ≠ t
          · exact (hin c2 y).mpr (Or.inr c)
          · rw [hno c2]
            refine hqi.2 y y0 y1 ys yt ys ?_
            rw [c, fs_us] at hy
            have w : ¬ 1 ≤ L e := fun z => c2 ⟨z, hne, by rw [← c]; exact yt⟩
            rw [c]
            omega
        · rw [fs_un c, fs_un ys] at hy
          have w := hqi.2 y y0 y1 ys yt ys hy
          by_cases c2 : 1 ≤ L e ∧ E e ≠ s ∧ E e ≠ t
          · exact (hin c2 y).mpr (Or.inl w)
          · rw [hno c2]
            exact w
theorem fs_st_27 (s0 : 0 ≤ s) (s1 : s < 16)
    (H : ∀ X V Hh : Int → Int, (∀ x, 0 ≤ x → x < 16 → X x = 0) → (∀ x, 0 ≤ x → x < 16 → V x = fs_v0 s x) → (∀ g, 0 ≤ g → g < 64 → Hh g = fs_ct (fs_v0 s) g) → wX_startPushing_27 post pr (fs_i s) sk ed fw qf qs oc 1 16 a1 a2 a3 a4 a5 a6 a7 (fs_a V) a9 a10 (fs_a X) (fs_a Hh) a13 a14 a15 a16 a17 a18 a19) :
    ∀ (n j : Nat) (X V Hh : Int → Int), j ≤ 16 → (∀ x : Int, 0 ≤ x → x < j → X x = 0) → (∀ x : Int, 0 ≤ x → x < j → V x = fs_v0 s x) → (∀ g, 0 ≤ g → g < 64 → Hh g = fs_s (fun x => if fs_v0 s x = g then 1 else 0) j) → 16 - j < n →
      wX_startPushing_27 post pr (fs_i s) sk ed fw qf qs oc n (fs_i j) a1 a2 a3 a4 a5 a6 a7 (fs_a V) a9 a10 (fs_a X) (fs_a Hh) a13 a14 a15 a16 a17 a18 a19 := by
  intro n
  induction n with
  | zero => intro j X V Hh _ _ _ _ h; omega
  | succ n ih =>
    intro j X V Hh j1 hX hV hH hl
    have j0 : (0 : Int) ≤ j := by omega
    unfold wX_startPushing_27
    refine fs_le 16 j (fun g => ?_) (fun g => ⟨fs_in j0 (by omega), nm_r (e' := fs_a (fs_u X j 0)) (fs_uq j0 (by omega)) ?_⟩)
    · have e : j = 16 := by omega
      subst e
      have w := H X V Hh (fun x x0 x1 => hX x x0 (by omega)) (fun x x0 x1 => hV x x0 (by omega)) hH
      unfold wX_startPushing_27 at w
      exact w.1 (by decide)
    · have go : ∀ (z : Int) (z32 : Int32), z32 = fs_i z → z = fs_v0 s j → wX_startPushing_59 post (wX_startPushing_27 post pr (fs_i s) sk ed fw qf qs oc n) (fs_i j) z32 (fs_i j) pr (fs_i s) sk ed fw qf qs oc a1 a2 a3 a4 a5 a6 a7 (fs_a V) a9 a10 (fs_a (fs_u X j 0)) (fs_a Hh) a13 a14 a15 a16 a17 a18 a19 := by
        intro z z32 hz32 hz
        subst hz32
        have zb : 0 ≤ z ∧ z ≤ 16 := by
          rw [hz]
          unfold fs_v0
          split <;> omega
        unfold wX_startPushing_59
        refine ⟨fs_in j0 (by omega), nm_r (fs_up j0 (by omega)) ⟨fs_in j0 (by omega), ?_⟩⟩
        rw [fs_rd (L := fs_u V j z) j0 (by omega), fs_us]
        refine ⟨fs_in zb.1 (by omega), fs_in zb.1 (by omega), nm_r (e' := fs_a (fs_u Hh z (Hh z + 1))) (by rw [fs_rd zb.1 (by omega), fs_p1, fs_up zb.1 (by omega)]) (nm_r (e' := fs_i ((j + 1 : Nat) : Int)) (by rw [fs_p1]; rfl) ?_)⟩
        refine ih (j + 1) _ _ _ (by omega) (fun x x0 x1 => ?_) (fun x x0 x1 => ?_) (fun g g0 g1 => ?_) (by omega)
        · by_cases c : x = j
          · rw [c, fs_us]
          · rw [fs_un c]
            exact hX x x0 (by omega)
        · by_cases c : x = j
          · rw [c, fs_us, hz]
          · rw [fs_un c]
            exact hV x x0 (by omega)
        · have e : fs_s (fun x => if fs_v0 s x = g then 1 else 0) (j + 1) = fs_s (fun x => if fs_v0 s x = g then 1 else 0) j + (if fs_v0 s j = g then 1 else 0) := rfl
          rw [e, ← hH g g0 g1, ← hz]
          by_cases c : g = z
          · rw [c, fs_us, if_pos rfl]
          · rw [fs_un c, if_neg (fun y => c y.symm)]
            omega
      refine fs_eq j s (fun c => go 16 16 rfl ?_) (fun c => go 0 0 rfl ?_)
      · unfold fs_v0
        rw [if_pos c]
      · unfold fs_v0
        rw [if_neg c]
theorem fs_st_6 (H : ∀ Hh : Int → Int, (∀ g, 0 ≤ g → g < 64 → Hh g = 0) → ∃ fu, wX_startPushing_27 post pr so sk ed fw qf qs oc fu 0 a1 a2 a3 a4 a5 a6 a7 a8 a9 a10 a11 (fs_a Hh) a13 a14 a15 a16 a17 a18 a19) :
    ∀ (n : Nat) (k : Int) (Hh : Int → Int), 0 ≤ k → k ≤ 64 → (∀ g, 0 ≤ g → g < k → Hh g = 0) → 64 - k < n → wX_startPushing_6 post pr so sk ed fw qf qs oc n (fs_i k) a1 a2 a3 a4 a5 a6 a7 a8 a9 a10 a11 (fs_a Hh) a13 a14 a15 a16 a17 a18 a19 := by
  intro n
  induction n with
  | zero => intro k Hh k0 k1 _ h; omega
  | succ n ih =>
    intro k Hh k0 k1 hH h
    unfold wX_startPushing_6
    refine fs_le 64 k (fun g => H Hh (fun x x0 x1 => hH x x0 (by omega))) (fun g => ⟨fs_in k0 (by omega), nm_r (e' := fs_a (fs_u Hh k 0)) (fs_uq k0 (by omega)) (nm_r (fs_p1 k) (ih (k + 1) _ (by omega) (by omega) (fun x x0 x1 => ?_) (by omega)))⟩)
    by_cases c : x = k
    · rw [c, fs_us]
    · rw [fs_un c]
      exact hH x x0 (by omega)
def fs_ov (W V : Int → Int) : Int → Int := fun x => if 0 ≤ x ∧ x < 16 then W x else V x
theorem fs_ov_in {W V : Int → Int} {x : Int} (x0 : 0 ≤ x) (x1 : x < 16) : fs_ov W V x = W x := if_pos ⟨x0, x1⟩
theorem fs_fa {V W : Int → Int} (h : ∀ x, 0 ≤ x → x < 16 → V x = W x) : fs_a V = fs_a (fs_ov W V) := by
  funext j
  unfold fs_a fs_ov
  by_cases c : (0 : Int) ≤ j ∧ (j : Int) < 16
  · rw [if_pos c, h j c.1 c.2]
  · rw [if_neg c]
theorem fs_st {L0 X0 V0 H0 Q0 D0 : Int → Int} (hn : fs_net m E F N ou) (hcp : fs_cp m s t E K Cn cap ou) (s0 : 0 ≤ s) (s1 : s < 16) (t0 : 0 ≤ t) (t1 : t < 16) (st : s ≠ t) (hlp : fs_lp m K L0) (hC : ∀ u, 0 ≤ u → u < 16 → fs_m L0 (ou u) = Cn u)
    (H : ∀ L X V Hh f r Q D q, fs_pv m s t E K Cn cap ou L X V Hh → fs_ph s t X V ≤ 95360 → fs_q f r Q D q → fs_qi s t s X q → post (pr, fs_i s, fs_i t, ed, fw, fs_i f, fs_i r, oc, a1, a2, a3, fs_a E, fs_a L, fs_a F, fs_a N, fs_a V, a9, a10, fs_a X, fs_a Hh, fs_a Q, fs_a D, a15, a16, a17, a18, a19)) :
    wpX_startPushing post (pr, fs_i s, fs_i t, ed, fw, qf, qs, oc, a1, a2, a3, fs_a E, fs_a L0, fs_a F, fs_a N, fs_a V0, a9, a10, fs_a X0, fs_a H0, fs_a Q0, fs_a D0, a15, a16, a17, a18, a19) := by
  unfold wpX_startPushing
  dsimp only
  refine fs_clq (fun D hq => ?_)
  dsimp only
  refine ⟨65, fs_st_6 (fun Hh hH => ⟨17, ?_⟩) 65 0 H0 (by omega) (by omega) (fun g g0 g1 => by omega) (by omega)⟩
  refine fs_st_27 s0 s1 (fun X V Hh hX hV hH => ?_) 17 0 X0 V0 Hh (by omega) (fun x x0 x1 => by omega) (fun x x0 x1 => by omega) (fun g g0 g1 => hH g g0 g1) (by omega)
  unfold wX_startPushing_27
  refine br_t (by decide) ⟨fs_in s0 (by omega), nm_r (fs_rd s0 (by omega)) ⟨(ou s).length + 1, ?_⟩⟩
  refine fs_st_91 (t := t) (K := K) (Cn := Cn) hn s0 s1 t0 t1 (fun L X f r Q D q hp hz hq hqi => ?_) _ (ou s) (F s) L0 X 0 0 Q0 D [] (fs_net_ch hn s0 s1) (fun x hx => hx) ⟨hlp, fun u u0 u1 => by rw [hC u u0 u1, hX u u0 u1]; omega, fun x x0 x1 _ => by rw [hX x x0 x1]; exact Int.le_refl _, ?_⟩ (fun e he hne => absurd he hne) hq ⟨fun y hy => (by cases hy), fun y y0 y1 _ _ _ hy => ?_⟩ (by omega)
  · have hpv := fs_p0_pv hn hcp st hp hz hH
    have e : fs_a V = fs_a (fs_ov (fs_v0 s) V) := fs_fa hV
    rw [e]
    have ev : ∀ x, 0 ≤ x → x < 16 → fs_ov (fs_v0 s) V x = fs_v0 s x := fun x x0 x1 => fs_ov_in x0 x1
    obtain ⟨p1, p2, p3, p4, p5, p6, p7, p8, p9⟩ := hpv
    refine H L X _ Hh f r Q D q ⟨p1, p2, p3, fun e e0 e1 he => ?_, by rw [ev s s0 s1]; exact p5, by rw [ev t t0 t1]; exact p6, fun x x0 x1 => by rw [ev x x0 x1]; exact p7 x x0 x1, p8, fun g g0 g1 => ?_⟩ ?_ hq hqi
    · have et := fs_net_to hn e0 e1
      have ef := fs_net_fr hn e0 e1
      rw [ev _ et.1 et.2.1, ev _ ef.1 ef.2.1]
      exact p4 e e0 e1 he
    · rw [p9 g g0 g1]
      unfold fs_ct
      exact fs_s_c (fun j j0 j1 => by rw [ev j j0 (by omega)])
    · have w : fs_ph s t X (fs_ov (fs_v0 s) V) = fs_ph s t X (fs_v0 s) := by
        unfold fs_ph
        refine fs_s_c (fun j j0 j1 => ?_)
        unfold fs_pe
        rw [ev j j0 (by omega)]
      rw [w]
      exact fs_ph_st
  · rw [fs_s_c (f := X) (g := fun _ => 0) (k := 16) (fun j j0 j1 => hX j j0 (by omega))]
    rfl
  · rw [hX y y0 y1] at hy
    omega
/-- engine 2 -/
theorem fs_e2_6 (hn : fs_net m E F N ou) (hcp : fs_cp m s t E K Cn cap ou) (s0 : 0 ≤ s) (s1 : s < 16) (t0 : 0 ≤ t) (t1 : t < 16) (st : s ≠ t)
    (H : fs_ok post pr (fs_i s) (fs_i t) ed a1 a2 a3 (fs_a E) (fs_a F) (fs_a N) (fs_mx m s t K E ou Cn)) :
    ∀ (n : Nat) (k : Int) (L X V Hh : Int → Int) (f r : Int) (Q D : Int → Int) (q : List Int), 0 ≤ k → k + fs_ph s t X V ≤ 95360 → fs_pv m s t E K Cn cap ou L X V Hh → fs_q f r Q D q → fs_qi s t s X q → fs_ph s t X V < n →
      wX_solveByPushingInTurn_6 post n (fs_i k) pr (fs_i s) (fs_i t) ed fw (fs_i f) (fs_i r) oc a1 a2 a3 (fs_a E) (fs_a L) (fs_a F) (fs_a N) (fs_a V) a9 a10 (fs_a X) (fs_a Hh) (fs_a Q) (fs_a D) a15 a16 a17 a18 a19 := by
  intro n
  induction n with
  | zero =>
    intro k L X V Hh f r Q D q k0 hk hpv hq hqi hl
    have := fs_ph_0 hcp hpv
    omega
  | succ n ih =>
    intro k L X V Hh f r Q D q k0 hk hpv hq hqi hl
    have hph := fs_ph_0 hcp hpv
    have hlen := fs_q_len hq
    unfold wX_solveByPushingInTurn_6
    refine fs_le 100000 k (fun g => absurd g (by omega)) (fun _ => ?_)
    cases q with
    | nil =>
      have hr : r = 0 := hq.2.2.1
      subst hr
      refine fs_le 0 0 (fun _ => ?_) (fun g => absurd g (by omega))
      unfold wX_solveByPushingInTurn_54
      refine ⟨fs_in t0 (by omega), nm_r (fs_rd t0 (by omega)) (H _ _ _ _ _ _ _ _ _ _ _ _ _ _ _ _ _ (fs_pv_end hpv hn s0 s1 t0 t1 st (fun x x0 x1 xs xt => ?_)))⟩
      rcases Int.lt_or_le (X x) 1 with z | z
      · omega
      · have := hqi.2 x x0 x1 xs xt xs z
        cases this
    | cons u q =>
      have hr : r = (u :: q).length := hq.2.2.1
      rw [List.length_cons] at hr
      have hu := hq.2.2.2.2.2.1 u List.mem_cons_self
      have hui := hqi.1 u List.mem_cons_self
      have hnd := List.nodup_cons.mp hq.2.2.2.2.1
      refine fs_le r 0 (fun g => absurd g (by omega)) (fun _ => fs_deq hq (fun f' D' hq' => ?_))
      refine fs_dc (K := K) hn hcp s0 s1 t0 t1 hu.1 hu.2 hui.1 hui.2.1 hpv hq' (fun L1 X1 r1 Q1 D1 q1 hpv1 hq1 hdr hbl => ⟨fs_in hu.1 (by omega), ?_⟩)
      obtain ⟨d1, d2, d3, d4, d5, d6⟩ := hdr
      have x1b := fs_pv_X hn hcp hpv1 hu.1 hu.2
      have x1n := hpv1.2.2.1 u hu.1 hu.2 hui.1
      have qi1 : fs_qi s t u X1 q1 := by
        refine ⟨fun y hy => ?_, fun y y0 y1 ys yt yu hy => ?_⟩
        · rcases d3 y hy with w | w
          · have w2 := hqi.1 y (List.mem_cons_of_mem _ w)
            have yb := hq.2.2.2.2.2.1 y (List.mem_cons_of_mem _ w)
            have yu : y ≠ u := fun z => hnd.1 (by rw [← z]; exact w)
            have w3 := d5 y yb.1 yb.2 w2.1 yu
            exact ⟨w2.1, w2.2.1, by omega⟩
          · exact ⟨w.1, w.2.1, w.2.2.2⟩
        · rcases d4 y y0 y1 ys yt yu with w | w
          · rw [w] at hy
            rcases List.mem_cons.mp (hqi.2 y y0 y1 ys yt ys hy) with v | v
            · exact absurd v yu
            · exact d2 y v
          · exact w
      rw [fs_rd (L := X1) hu.1 (by omega)]
      refine fs_le (X1 u) 0 (fun g => nm_r (fs_p1 k) (ih (k + 1) L1 X1 V Hh f' r1 Q1 D1 q1 (by omega) (by omega) hpv1 hq1 ⟨qi1.1, fun y y0 y1 ys yt _ hy => qi1.2 y y0 y1 ys yt (fun z => by rw [z] at hy; omega) hy⟩ (by omega))) (fun g => ?_)
      refine fs_rs (s := s) (t := t) (K := K) hn hcp hpv1 hu.1 hu.2 hui.1 hui.2.1 (by omega) (hbl.resolve_left (by omega)) (fun V2 H2 hpv2 hph2 => ?_)
      refine fs_enq hq1 hu.1 hu.2 (fun r3 Q3 D3 q3 hq3 hqe => nm_r (fs_p1 k) ?_)
      have hm := (fs_ifm hqe).1
      refine ih (k + 1) L1 X1 V2 H2 f' r3 Q3 D3 q3 (by omega) (by omega) hpv2 hq3 ⟨fun y hy => ?_, fun y y0 y1 ys yt _ hy => ?_⟩ (by omega)
      · rcases (hm y).mp hy with w | w
        · exact qi1.1 y w
        · rw [w]
          exact ⟨hui.1, hui.2.1, by omega⟩
      · by_cases c : y = u
        · exact (hm y).mpr (Or.inr c)
        · exact (hm y).mpr (Or.inl (qi1.2 y y0 y1 ys yt c hy))
theorem fs_e2 {L0 : Int → Int} (hn : fs_net m E F N ou) (hcp : fs_cp m s t E K Cn cap ou) (s0 : 0 ≤ s) (s1 : s < 16) (t0 : 0 ≤ t) (t1 : t < 16) (st : s ≠ t) (hlp : fs_lp m K L0) (hC : ∀ u, 0 ≤ u → u < 16 → fs_m L0 (ou u) = Cn u)
    (H : fs_ok post pr (fs_i s) (fs_i t) ed a1 a2 a3 (fs_a E) (fs_a F) (fs_a N) (fs_mx m s t K E ou Cn)) :
    wpX_solveByPushingInTurn post (pr, fs_i s, fs_i t, ed, fw, qf, qs, oc, a1, a2, a3, fs_a E, fs_a L0, fs_a F, fs_a N, a8, a9, a10, a11, a12, a13, a14, a15, a16, a17, a18, a19) := by
  unfold wpX_solveByPushingInTurn
  dsimp only
  obtain ⟨V, rfl⟩ := fs_all a8
  obtain ⟨X, rfl⟩ := fs_all a11
  obtain ⟨Hh, rfl⟩ := fs_all a12
  obtain ⟨Q, rfl⟩ := fs_all a13
  obtain ⟨D, rfl⟩ := fs_all a14
  exact fs_st hn hcp s0 s1 t0 t1 st hlp hC (fun L1 X1 V1 H1 f1 r1 Q1 D1 q1 hpv hph hq hqi => ⟨(fs_ph s t X1 V1).toNat + 1, fs_e2_6 hn hcp s0 s1 t0 t1 st H _ 0 L1 X1 V1 H1 f1 r1 Q1 D1 q1 (by omega) (by omega) hpv hq hqi (by omega)⟩)
end
end
section
/-! part 13: pushing: highest, closeGap, engine 3 -/
section
variable {m s t : Int} {E F N K Cn cap : Int → Int} {ou : Int → List Int} {pr so sk ed fw qf qs oc : Int32} {a1 a2 a3 a4 a5 a6 a7 a8 a9 a10 a11 a12 a13 a14 a15 a16 a17 a18 a19 : Nat → Int32}
theorem fs_hg_4 {post : Int32 → Prop} {X V : Int → Int} (s0 : 0 ≤ s) (s1 : s < 16) (t0 : 0 ≤ t) (t1 : t < 16) (hX : ∀ x, 0 ≤ x → x < 16 → -1000000 < X x ∧ X x < 1000000) (hV : ∀ x, 0 ≤ x → x < 16 → 0 ≤ V x ∧ V x ≤ 20)
    (H : ∀ b, ((b = -1 ∧ ∀ x, 0 ≤ x → x < 16 → x ≠ s → x ≠ t → X x ≤ 0) ∨ (0 ≤ b ∧ b < 16 ∧ b ≠ s ∧ b ≠ t ∧ 1 ≤ X b)) → post (fs_i b)) :
    ∀ (n : Nat) (b k : Int), 0 ≤ k → k ≤ 16 → ((b = -1 ∧ ∀ x, 0 ≤ x → x < k → x ≠ s → x ≠ t → X x ≤ 0) ∨ (0 ≤ b ∧ b < 16 ∧ b ≠ s ∧ b ≠ t ∧ 1 ≤ X b)) → 16 - k < n →
      wX_highest_4 post pr (fs_i s) (fs_i t) ed fw qf qs oc a1 a2 a3 a4 a5 a6 a7 (fs_a V) a9 a10 (fs_a X) a12 a13 a14 a15 a16 a17 a18 a19 n (fs_i b) (fs_i k) := by
  intro n
  induction n with
  | zero => intro b k k0 k1 _ h; omega
  | succ n ih =>
    intro b k k0 k1 hb hl
    unfold wX_highest_4
    refine fs_le 16 k (fun g => H b ?_) (fun g => ?_)
    · rcases hb with ⟨w, w2⟩ | w
      · exact Or.inl ⟨w, fun x x0 x1 => w2 x x0 (by omega)⟩
      · exact Or.inr w
    · have xk := hX k k0 g
      have vk := hV k k0 g
      have no : (k ≠ s → k ≠ t → X k ≤ 0) → wX_highest_39 post (wX_highest_4 post pr (fs_i s) (fs_i t) ed fw qf qs oc a1 a2 a3 a4 a5 a6 a7 (fs_a V) a9 a10 (fs_a X) a12 a13 a14 a15 a16 a17 a18 a19 n) (fs_i b) (fs_i k) pr (fs_i s) (fs_i t) ed fw qf qs oc a1 a2 a3 a4 a5 a6 a7 (fs_a V) a9 a10 (fs_a X) a12 a13 a14 a15 a16 a17 a18 a19 := by
        intro h
        unfold wX_highest_39
        unfold wX_highest_40
        refine br_t rfl (nm_r (fs_p1 k) (ih b (k + 1) (by omega) (by omega) ?_ (by omega)))
        rcases hb with ⟨w, w2⟩ | w
        · refine Or.inl ⟨w, fun x x0 x1 xs xt => ?_⟩
          by_cases c : x = k
          · rw [c] at xs xt
            rw [c]
            exact h xs xt
          · exact w2 x x0 (by omega) xs xt
        · exact Or.inr w
      refine fs_eq k s (fun c => no (fun z => absurd c z)) (fun c => ?_)
      refine fs_eq k t (fun c2 => no (fun _ z => absurd c2 z)) (fun c2 => ⟨fs_in k0 (by omega), ?_⟩)
      rw [fs_rd (L := X) k0 (by omega)]
      refine fs_le (X k) 0 (fun g2 => no (fun _ _ => g2)) (fun g2 => ?_)
      have tk : wX_highest_4 post pr (fs_i s) (fs_i t) ed fw qf qs oc a1 a2 a3 a4 a5 a6 a7 (fs_a V) a9 a10 (fs_a X) a12 a13 a14 a15 a16 a17 a18 a19 n (fs_i k) (fs_i (k + 1)) := ih k (k + 1) (by omega) (by omega) (Or.inr ⟨k0, g, c, c2, by omega⟩) (by omega)
      unfold wX_highest_40
      refine br_f (by decide) ?_
      rcases hb with ⟨w, w2⟩ | w
      · subst w
        exact fs_lt (-1) 0 (fun _ => nm_r (fs_p1 k) tk) (fun z => absurd z (by omega))
      · have vb := hV b w.1 w.2.1
        refine fs_lt b 0 (fun z => absurd z (by omega)) (fun _ => ⟨fs_in k0 (by omega), fs_in w.1 (by omega), ?_⟩)
        rw [fs_rd (L := V) k0 (by omega), fs_rd (L := V) w.1 (by omega)]
        exact fs_le (V k) (V b) (fun _ => nm_r (fs_p1 k) (ih b (k + 1) (by omega) (by omega) (Or.inr w) (by omega))) (fun _ => nm_r (fs_p1 k) tk)
theorem fs_hg {post : Int32 → Prop} {X V : Int → Int} (s0 : 0 ≤ s) (s1 : s < 16) (t0 : 0 ≤ t) (t1 : t < 16) (hX : ∀ x, 0 ≤ x → x < 16 → -1000000 < X x ∧ X x < 1000000) (hV : ∀ x, 0 ≤ x → x < 16 → 0 ≤ V x ∧ V x ≤ 20)
    (H : ∀ b, ((b = -1 ∧ ∀ x, 0 ≤ x → x < 16 → x ≠ s → x ≠ t → X x ≤ 0) ∨ (0 ≤ b ∧ b < 16 ∧ b ≠ s ∧ b ≠ t ∧ 1 ≤ X b)) → post (fs_i b)) :
    wpX_highest post (pr, fs_i s, fs_i t, ed, fw, qf, qs, oc, a1, a2, a3, a4, a5, a6, a7, fs_a V, a9, a10, fs_a X, a12, a13, a14, a15, a16, a17, a18, a19) := by
  unfold wpX_highest
  dsimp only
  exact ⟨17, fs_hg_4 s0 s1 t0 t1 hX hV H 17 (-1) 0 (by omega) (by omega) (Or.inl ⟨rfl, fun x x0 x1 => by omega⟩) (by omega)⟩
def fs_tg (s g : Int) (V : Int → Int) (x : Int) : Int := if x ≠ s ∧ g < V x ∧ V x ≤ 16 then 17 else V x
theorem fs_tg_pv {L X V V' Hh : Int → Int} {g : Int} (hn : fs_net m E F N ou) (hcp : fs_cp m s t E K Cn cap ou) (hpv : fs_pv m s t E K Cn cap ou L X V Hh) (s0 : 0 ≤ s) (s1 : s < 16) (t0 : 0 ≤ t) (t1 : t < 16) (g0 : 0 ≤ g) (hg : fs_ct V g = 0) (hV' : ∀ x, 0 ≤ x → x < 16 → V' x = fs_tg s g V x) {Hh' : Int → Int} (hH : ∀ h, 0 ≤ h → h < 64 → Hh' h = fs_ct V' h) :
    fs_pv m s t E K Cn cap ou L X V' Hh' := by
  have hpv0 := hpv
  obtain ⟨p1, p2, p3, p4, p5, p6, p7, p8, p9⟩ := hpv
  refine ⟨p1, p2, p3, fun e e0 e1 he => ?_, ?_, ?_, fun x x0 x1 => ?_, p8, hH⟩
  · have et := fs_net_to hn e0 e1
    have ef := fs_net_fr hn e0 e1
    rw [hV' _ et.1 et.2.1, hV' _ ef.1 ef.2.1]
    have a := p4 e e0 e1 he
    have b := fs_ct_0 hg et.1 et.2.1
    have c := p7 _ et.1 et.2.1
    unfold fs_tg
    by_cases c1 : E (fs_x e) ≠ s ∧ g < V (E (fs_x e)) ∧ V (E (fs_x e)) ≤ 16
    · rw [if_pos c1]
      by_cases c2 : E e ≠ s ∧ g < V (E e) ∧ V (E e) ≤ 16
      · rw [if_pos c2]
        omega
      · rw [if_neg c2]
        by_cases c3 : E e = s
        · rw [c3, p5]
          omega
        · have : ¬ (g < V (E e) ∧ V (E e) ≤ 16) := fun z => c2 ⟨c3, z⟩
          omega
    · rw [if_neg c1]
      split <;> omega
  · rw [hV' s s0 s1]
    unfold fs_tg
    rw [if_neg (fun z => z.1 rfl)]
    exact p5
  · rw [hV' t t0 t1]
    unfold fs_tg
    rw [if_neg (fun z => by rw [p6] at z; omega)]
    exact p6
  · rw [hV' x x0 x1]
    have a := p7 x x0 x1
    unfold fs_tg
    split
    · rename_i c
      by_cases c2 : x = t
      · rw [c2, p6] at c
        omega
      · have := hcp.2.2.1 x x0 x1 c.1 c2
        omega
    · exact a
theorem fs_cg_2 {post : St2 → Prop} {L X V Hh : Int → Int} {g : Int} (hn : fs_net m E F N ou) (hcp : fs_cp m s t E K Cn cap ou) (hpv : fs_pv m s t E K Cn cap ou L X V Hh) (s0 : 0 ≤ s) (s1 : s < 16) (t0 : 0 ≤ t) (t1 : t < 16) (g0 : 0 ≤ g) (g1 : g < 16) (hg : fs_ct V g = 0)
    (H : ∀ V' Hh', fs_pv m s t E K Cn cap ou L X V' Hh' → fs_ph s t X V' ≤ fs_ph s t X V → post (pr, fs_i s, fs_i t, ed, fw, qf, qs, oc, a1, a2, a3, a4, a5, a6, a7, fs_a V', a9, a10, a11, fs_a Hh', a13, a14, a15, a16, a17, a18, a19)) :
    ∀ (n : Nat) (k : Int) (V' Hh' : Int → Int), 0 ≤ k → k ≤ 16 → (∀ x, 0 ≤ x → x < k → V' x = fs_tg s g V x) → (∀ x, k ≤ x → x < 16 → V' x = V x) → (∀ h, 0 ≤ h → h < 64 → Hh' h = fs_ct V' h) → fs_ph s t X V' ≤ fs_ph s t X V → 16 - k < n →
      wX_closeGap_2 post (fs_i g) pr (fs_i s) (fs_i t) ed fw qf qs oc n (fs_i k) a1 a2 a3 a4 a5 a6 a7 (fs_a V') a9 a10 a11 (fs_a Hh') a13 a14 a15 a16 a17 a18 a19 := by
  intro n
  induction n with
  | zero => intro k V' Hh' k0 k1 _ _ _ _ h; omega
  | succ n ih =>
    intro k V' Hh' k0 k1 hlo hhi hH hph hl
    unfold wX_closeGap_2
    refine fs_le 16 k (fun z => H V' Hh' (fs_tg_pv hn hcp hpv s0 s1 t0 t1 g0 hg (fun x x0 x1 => hlo x x0 (by omega)) hH) hph) (fun z => ?_)
    have vk := fs_pv_V hcp hpv k0 z
    have e := hhi k (Int.le_refl _) z
    have xb := fs_pv_X hn hcp hpv k0 z
    have skip : fs_tg s g V k = V k → wX_closeGap_2 post (fs_i g) pr (fs_i s) (fs_i t) ed fw qf qs oc n (fs_i (k + 1)) a1 a2 a3 a4 a5 a6 a7 (fs_a V') a9 a10 a11 (fs_a Hh') a13 a14 a15 a16 a17 a18 a19 := fun h => by
      refine ih (k + 1) V' Hh' (by omega) (by omega) (fun x x0 x1 => ?_) (fun x x0 x1 => hhi x (by omega) x1) hH hph (by omega)
      by_cases c : x = k
      · rw [c, h, e]
      · exact hlo x x0 (by omega)
    refine fs_eq k s (fun c => nm_r (fs_p1 k) (skip ?_)) (fun c => ⟨fs_in k0 (by omega), ?_⟩)
    · unfold fs_tg
      rw [if_neg (fun y => y.1 c)]
    · rw [fs_rd (L := V') k0 (by omega), e]
      refine fs_le (V k) g (fun c2 => nm_r (fs_p1 k) (skip ?_)) (fun c2 => ⟨fs_in k0 (by omega), ?_⟩)
      · unfold fs_tg
        rw [if_neg (fun y => by omega)]
      · refine fs_lt 16 (V k) (fun c3 => nm_r (fs_p1 k) (skip ?_)) (fun c3 => ⟨fs_in k0 (by omega), fs_in vk.1 (by omega), fs_in vk.1 (by omega), nm_r (e' := fs_a (fs_u Hh' (V k) (Hh' (V k) - 1))) (by rw [fs_rd vk.1 (by omega), fs_m1, fs_up vk.1 (by omega)]) ⟨fs_in k0 (by omega), nm_r (e' := fs_a (fs_u V' k 17)) (fs_uq k0 (by omega)) ⟨fs_in k0 (by omega), ?_⟩⟩⟩)
        · unfold fs_tg
          rw [if_neg (fun y => by omega)]
        · rw [fs_rd (L := fs_u V' k 17) k0 (by omega), fs_us]
          refine ⟨fs_in (by omega) (by omega), fs_in (by omega) (by omega), nm_r (e' := fs_a (fs_u (fs_u Hh' (V k) (Hh' (V k) - 1)) 17 (Hh' 17 + 1))) (by rw [fs_rd (by omega) (by omega), fs_un (by omega), fs_p1, fs_up (by omega) (by omega)]) (nm_r (fs_p1 k) ?_)⟩
          have kt : k ≠ t := fun y => by
            have w := hpv.2.2.2.2.2.1
            rw [y, w] at c2
            omega
          refine ih (k + 1) _ _ (by omega) (by omega) (fun x x0 x1 => ?_) (fun x x0 x1 => ?_) ?_ ?_ (by omega)
          · by_cases c4 : x = k
            · rw [c4, fs_us]
              unfold fs_tg
              rw [if_pos ⟨c, c2, c3⟩]
            · rw [fs_un c4]
              exact hlo x x0 (by omega)
          · rw [fs_un (by omega)]
            exact hhi x (by omega) x1
          · have w := fs_hh (V := V') (Hh := Hh') (u := k) (z := 17) hH k0 z (by omega)
            rw [e] at w
            exact w
          · have w := fs_ph_rise (s := s) (t := t) (X := X) (V := V') (z := 17) k0 z c kt xb (by omega)
            omega
theorem fs_cg {post : St2 → Prop} {L X V Hh : Int → Int} {g : Int} (hn : fs_net m E F N ou) (hcp : fs_cp m s t E K Cn cap ou) (hpv : fs_pv m s t E K Cn cap ou L X V Hh) (s0 : 0 ≤ s) (s1 : s < 16) (t0 : 0 ≤ t) (t1 : t < 16) (g0 : 0 ≤ g) (g1 : g < 16) (hg : fs_ct V g = 0)
    (H : ∀ V' Hh', fs_pv m s t E K Cn cap ou L X V' Hh' → fs_ph s t X V' ≤ fs_ph s t X V → post (pr, fs_i s, fs_i t, ed, fw, qf, qs, oc, a1, a2, a3, a4, a5, a6, a7, fs_a V', a9, a10, a11, fs_a Hh', a13, a14, a15, a16, a17, a18, a19)) :
    wpX_closeGap post (pr, fs_i s, fs_i t, ed, fw, qf, qs, oc, a1, a2, a3, a4, a5, a6, a7, fs_a V, a9, a10, a11, fs_a Hh, a13, a14, a15, a16, a17, a18, a19) (fs_i g) := by
  unfold wpX_closeGap
  dsimp only
  exact ⟨17, fs_cg_2 hn hcp hpv s0 s1 t0 t1 g0 g1 hg H 17 0 V Hh (by omega) (by omega) (fun x x0 x1 => by omega) (fun x _ _ => rfl) hpv.2.2.2.2.2.2.2.2 (Int.le_refl _) (by omega)⟩
end
section
variable {m s t : Int} {E F N K Cn cap : Int → Int} {ou : Int → List Int} {post : St2 → Prop} {pr so sk ed fw qf qs oc : Int32} {a1 a2 a3 a4 a5 a6 a7 a8 a9 a10 a11 a12 a13 a14 a15 a16 a17 a18 a19 : Nat → Int32}
theorem fs_pv_Xb {L X V Hh : Int → Int} (hn : fs_net m E F N ou) (hcp : fs_cp m s t E K Cn cap ou) (h : fs_pv m s t E K Cn cap ou L X V Hh) (hCb : Cn s < 1000000) (s0 : 0 ≤ s) (s1 : s < 16) : ∀ x, 0 ≤ x → x < 16 → -1000000 < X x ∧ X x < 1000000 := fun x x0 x1 => by
  have a := fs_pv_X hn hcp h x0 x1
  by_cases c : x = s
  · have b := h.2.1 s s0 s1
    have d := fs_m_b hn h.1 s0 s1
    rw [c] at a ⊢
    omega
  · have b := h.2.2.1 x x0 x1 c
    omega
theorem fs_e3_11 (hn : fs_net m E F N ou) (hcp : fs_cp m s t E K Cn cap ou) (hCb : Cn s < 1000000) (s0 : 0 ≤ s) (s1 : s < 16) (t0 : 0 ≤ t) (t1 : t < 16) (st : s ≠ t)
    (H : fs_ok post pr (fs_i s) (fs_i t) ed a1 a2 a3 (fs_a E) (fs_a F) (fs_a N) (fs_mx m s t K E ou Cn)) :
    ∀ (n : Nat) (u k : Int) (L X V Hh : Int → Int) (f r : Int) (Q D : Int → Int) (q : List Int), 0 ≤ k → k + fs_ph s t X V ≤ 95360 → fs_pv m s t E K Cn cap ou L X V Hh → fs_q f r Q D q →
      ((u = -1 ∧ ∀ x, 0 ≤ x → x < 16 → x ≠ s → x ≠ t → X x ≤ 0) ∨ (0 ≤ u ∧ u < 16 ∧ u ≠ s ∧ u ≠ t ∧ 1 ≤ X u)) → fs_ph s t X V < n →
      wX_solveByPushingHighest_11 post n (fs_i u) (fs_i k) pr (fs_i s) (fs_i t) ed fw (fs_i f) (fs_i r) oc a1 a2 a3 (fs_a E) (fs_a L) (fs_a F) (fs_a N) (fs_a V) a9 a10 (fs_a X) (fs_a Hh) (fs_a Q) (fs_a D) a15 a16 a17 a18 a19 := by
  intro n
  induction n with
  | zero =>
    intro u k L X V Hh f r Q D q k0 hk hpv hq hu hl
    have := fs_ph_0 hcp hpv
    omega
  | succ n ih =>
    intro u k L X V Hh f r Q D q k0 hk hpv hq hu hl
    have hph := fs_ph_0 hcp hpv
    unfold wX_solveByPushingHighest_11
    refine fs_le 100000 k (fun g => absurd g (by omega)) (fun _ => ?_)
    rcases hu with ⟨w, w2⟩ | ⟨u0, u1, us, ut, ux⟩
    · subst w
      refine fs_lt (-1) 0 (fun _ => ?_) (fun g => absurd g (by omega))
      unfold wX_solveByPushingHighest_78
      exact ⟨fs_in t0 (by omega), nm_r (fs_rd t0 (by omega)) (H _ _ _ _ _ _ _ _ _ _ _ _ _ _ _ _ _ (fs_pv_end hpv hn s0 s1 t0 t1 st w2))⟩
    · refine fs_lt u 0 (fun g => absurd g (by omega)) (fun _ => ?_)
      have nxt : ∀ (L X V Hh : Int → Int) (r : Int) (Q D : Int → Int) (q : List Int), k + 1 + fs_ph s t X V ≤ 95360 → fs_pv m s t E K Cn cap ou L X V Hh → fs_q f r Q D q → fs_ph s t X V < n →
          wX_solveByPushingHighest_67 post (wX_solveByPushingHighest_11 post n) (fs_i k) pr (fs_i s) (fs_i t) ed fw (fs_i f) (fs_i r) oc a1 a2 a3 (fs_a E) (fs_a L) (fs_a F) (fs_a N) (fs_a V) a9 a10 (fs_a X) (fs_a Hh) (fs_a Q) (fs_a D) a15 a16 a17 a18 a19 := by
        intro L X V Hh r Q D q h1 h2 h3 h4
        unfold wX_solveByPushingHighest_67
        exact fs_hg s0 s1 t0 t1 (fs_pv_Xb hn hcp h2 hCb s0 s1) (fun x x0 x1 => fs_pv_V hcp h2 x0 x1) (fun b hb => nm_r (fs_p1 k) (ih b (k + 1) L X V Hh f r Q D q (by omega) h1 h2 h3 hb h4))
      refine fs_dc (K := K) hn hcp s0 s1 t0 t1 u0 u1 us ut hpv hq (fun L1 X1 r1 Q1 D1 q1 hpv1 hq1 hdr hbl => ⟨fs_in u0 (by omega), ?_⟩)
      obtain ⟨d1, d2, d3, d4, d5, d6⟩ := hdr
      have x1b := fs_pv_X hn hcp hpv1 u0 u1
      have x1n := hpv1.2.2.1 u u0 u1 us
      have vu := fs_pv_V hcp hpv1 u0 u1
      rw [fs_rd (L := X1) u0 (by omega)]
      refine fs_le (X1 u) 0 (fun g => nxt L1 X1 V Hh r1 Q1 D1 q1 (by omega) hpv1 hq1 (by omega)) (fun g => ⟨fs_in u0 (by omega), nm_r (fs_rd u0 (by omega)) ?_⟩)
      refine fs_rs (s := s) (t := t) (K := K) hn hcp hpv1 u0 u1 us ut (by omega) (hbl.resolve_left (by omega)) (fun V2 H2 hpv2 hph2 => ⟨fs_in vu.1 (by omega), ?_⟩)
      have hct := hpv2.2.2.2.2.2.2.2.2 (V u) vu.1 (by omega)
      have hctn := fs_ct_n V2 (V u)
      have hctb : fs_ct V2 (V u) ≤ 16 := by
        have w := fs_s_k (f := fun x => if V2 x = V u then 1 else 0) (c := 1) (k := 16) (fun j _ _ => by split <;> omega)
        unfold fs_ct
        omega
      rw [fs_rd (L := H2) vu.1 (by omega)]
      refine fs_eq (H2 (V u)) 0 (fun g2 => ?_) (fun g2 => nxt L1 X1 V2 H2 r1 Q1 D1 q1 (by omega) hpv2 hq1 (by omega))
      refine fs_le 16 (V u) (fun g3 => nxt L1 X1 V2 H2 r1 Q1 D1 q1 (by omega) hpv2 hq1 (by omega)) (fun g3 => ?_)
      exact fs_cg hn hcp hpv2 s0 s1 t0 t1 vu.1 g3 (by omega) (fun V3 H3 hpv3 hph3 => nxt L1 X1 V3 H3 r1 Q1 D1 q1 (by omega) hpv3 hq1 (by omega))
theorem fs_e3 {L0 : Int → Int} (hn : fs_net m E F N ou) (hcp : fs_cp m s t E K Cn cap ou) (hCb : Cn s < 1000000) (s0 : 0 ≤ s) (s1 : s < 16) (t0 : 0 ≤ t) (t1 : t < 16) (st : s ≠ t) (hlp : fs_lp m K L0) (hC : ∀ u, 0 ≤ u → u < 16 → fs_m L0 (ou u) = Cn u)
    (H : fs_ok post pr (fs_i s) (fs_i t) ed a1 a2 a3 (fs_a E) (fs_a F) (fs_a N) (fs_mx m s t K E ou Cn)) :
    wpX_solveByPushingHighest post (pr, fs_i s, fs_i t, ed, fw, qf, qs, oc, a1, a2, a3, fs_a E, fs_a L0, fs_a F, fs_a N, a8, a9, a10, a11, a12, a13, a14, a15, a16, a17, a18, a19) := by
  unfold wpX_solveByPushingHighest
  dsimp only
  obtain ⟨V, rfl⟩ := fs_all a8
  obtain ⟨X, rfl⟩ := fs_all a11
  obtain ⟨Hh, rfl⟩ := fs_all a12
  obtain ⟨Q, rfl⟩ := fs_all a13
  obtain ⟨D, rfl⟩ := fs_all a14
  refine fs_st hn hcp s0 s1 t0 t1 st hlp hC (fun L1 X1 V1 H1 f1 r1 Q1 D1 q1 hpv hph hq hqi => ?_)
  exact fs_hg s0 s1 t0 t1 (fs_pv_Xb hn hcp hpv hCb s0 s1) (fun x x0 x1 => fs_pv_V hcp hpv x0 x1) (fun b hb => ⟨(fs_ph s t X1 V1).toNat + 1, fs_e3_11 hn hcp hCb s0 s1 t0 t1 st H _ b 0 L1 X1 V1 H1 f1 r1 Q1 D1 q1 (by omega) (by omega) hpv hq hb (by omega)⟩)
end
end
section
/-! part 14: engine 6, two trees: the pure side -/
def fs_ae (a e : Int) : Int := if a = 1 then e else fs_x e
theorem fs_ae1 (e : Int) : fs_ae 1 e = e := if_pos rfl
theorem fs_aen {a e : Int} (h : a ≠ 1) : fs_ae a e = fs_x e := if_neg h
theorem fs_aex (a e : Int) : fs_ae a (fs_x e) = fs_x (fs_ae a e) := by
  unfold fs_ae
  split <;> rfl
theorem fs_aea (a e : Int) : fs_ae a (fs_ae a e) = e := by
  unfold fs_ae
  split
  · rfl
  · exact fs_xx e
/-- the parent -/
def fs_pa (E C T : Int → Int) (x : Int) : Int := E (fs_x (fs_ae (T x) (C x)))
def fs_rr (E C T : Int → Int) (o : Int) : List Int → Int → Prop | [], x => x = o | y :: l, x => y = x ∧ x ≠ o ∧ 0 ≤ C x ∧ fs_rr E C T o l (fs_pa E C T x)
def fs_tm (E C T : Int → Int) : List Int → Int → Prop | [], x => C x < 0 | y :: l, x => y = x ∧ 0 ≤ C x ∧ fs_tm E C T l (fs_pa E C T x)
/-- trees; a node without parent edge is a root, free or an orphan -/
def fs_bt (m s t : Int) (E L T C : Int → Int) : Prop :=
  (∀ x, 0 ≤ x → x < 16 → T x = 0 ∨ T x = 1 ∨ T x = 2) ∧ T s = 1 ∧ T t = 2 ∧ C s = -1 ∧ C t = -1 ∧
  (∀ x, 0 ≤ x → x < 16 → C x = -1 ∨ (T x ≠ 0 ∧ 0 ≤ C x ∧ C x < m ∧ 1 ≤ L (C x) ∧ E (fs_ae (T x) (C x)) = x ∧ T (fs_pa E C T x) = T x)) ∧
  (∀ x, 0 ≤ x → x < 16 → T x ≠ 0 → ∃ l, fs_tm E C T l x)
/-- nodes that are not in the queue have no free way out of their tree -/
def fs_bo (E L T : Int → Int) (ou : Int → List Int) (q : List Int) : Prop :=
  ∀ x, 0 ≤ x → x < 16 → T x ≠ 0 → x ∉ q → ∀ e, e ∈ ou x → 1 ≤ L (fs_ae (T x) e) → T (E e) = T x
def fs_os (O : Int → Int) : List Int → Prop | [] => True | x :: l => O (l.length : Int) = x ∧ fs_os O l
theorem fs_os_c {O : Int → Int} {k z : Int} : ∀ {l : List Int}, (l.length : Int) ≤ k → fs_os O l → fs_os (fs_u O k z) l := by
  intro l
  induction l with
  | nil => intro _ _; exact trivial
  | cons x l ih =>
    intro hk h
    rw [List.length_cons] at hk
    exact ⟨by rw [fs_un (by omega)]; exact h.1, ih (by omega) h.2⟩
/-- the orphans -/
def fs_or (s t : Int) (O T C : Int → Int) (oc : Int) (ol : List Int) : Prop :=
  oc = ol.length ∧ fs_os O ol ∧ ol.Nodup ∧ (∀ x, x ∈ ol → 0 ≤ x ∧ x < 16 ∧ x ≠ s ∧ x ≠ t ∧ T x ≠ 0 ∧ C x = -1) ∧
  (∀ x, 0 ≤ x → x < 16 → x ≠ s → x ≠ t → T x ≠ 0 → C x = -1 → x ∈ ol)
theorem fs_pig {l : List Int} (hn : l.Nodup) (hr : ∀ x, x ∈ l → 0 ≤ x ∧ x < 16) : (l.length : Int) ≤ 16 := by
  have key : ∀ l : List Int, l.Nodup → (∀ x, x ∈ l → 0 ≤ x ∧ x < 16) → (l.length : Int) = fs_s (fun x => if x ∈ l then 1 else 0) 16 := by
    intro l
    induction l with
    | nil =>
      intro _ _
      rw [fs_s_c (f := fun x => if x ∈ ([] : List Int) then (1 : Int) else 0) (g := fun _ => 0) (k := 16) (fun j _ _ => if_neg (fun z => by cases z))]
      rfl
    | cons y l ih =>
      intro hn hr
      have nd := List.nodup_cons.mp hn
      have yb := hr y List.mem_cons_self
      have a := ih nd.2 (fun x hx => hr x (List.mem_cons_of_mem _ hx))
      have w := fs_s_u (f := fun x => if x ∈ l then (1 : Int) else 0) (g := fun x => if x ∈ y :: l then 1 else 0) (k := 16) (x := y) yb.1 (by omega) (fun j _ _ c => by
        by_cases g : j ∈ l
        · rw [if_pos g, if_pos (List.mem_cons_of_mem _ g)]
        · rw [if_neg g, if_neg (fun z => by
            rcases List.mem_cons.mp z with v | v
            · exact c v
            · exact g v)])
      rw [if_neg nd.1, if_pos List.mem_cons_self] at w
      rw [List.length_cons]
      omega
  have a := key l hn hr
  have b := fs_s_k (f := fun x => if x ∈ l then (1 : Int) else 0) (c := 1) (k := 16) (fun j _ _ => by split <;> omega)
  omega
theorem fs_or_len {s t oc : Int} {O T C : Int → Int} {ol : List Int} (h : fs_or s t O T C oc ol) : 0 ≤ oc ∧ oc ≤ 16 := by
  have w := fs_pig h.2.2.1 (fun x hx => ⟨(h.2.2.2.1 x hx).1, (h.2.2.2.1 x hx).2.1⟩)
  have v := h.1
  omega
section
variable {m s t : Int} {E F N K L T C : Int → Int} {ou : Int → List Int}
theorem fs_bt_v (hn : fs_net m E F N ou) (h : fs_bt m s t E L T C) {x : Int} (x0 : 0 ≤ x) (x1 : x < 16) (hc : 0 ≤ C x) : T x ≠ 0 ∧ C x < m ∧ 1 ≤ L (C x) ∧ E (fs_ae (T x) (C x)) = x ∧ T (fs_pa E C T x) = T x ∧ 0 ≤ fs_pa E C T x ∧ fs_pa E C T x < 16 ∧ x ≠ s ∧ x ≠ t ∧ fs_pa E C T x ≠ x := by
  have a := h.2.2.2.2.2.1 x x0 x1
  rcases a with a | a
  · omega
  · have pb : 0 ≤ fs_ae (T x) (C x) ∧ fs_ae (T x) (C x) < m := by
      unfold fs_ae
      split
      · exact ⟨a.2.1, a.2.2.1⟩
      · exact fs_net_x hn a.2.1 a.2.2.1
    have fr := fs_net_fr hn pb.1 pb.2
    have to := fs_net_to hn pb.1 pb.2
    refine ⟨a.1, a.2.2.1, a.2.2.2.1, a.2.2.2.2.1, a.2.2.2.2.2, fr.1, fr.2.1, fun z => ?_, fun z => ?_, fun z => ?_⟩
    · rw [z, h.2.2.2.1] at hc
      omega
    · rw [z, h.2.2.2.2.1] at hc
      omega
    · refine to.2.2.1 ?_
      rw [a.2.2.2.2.1]
      exact z.symm
/-- both ends of a parent edge lie in the tree -/
theorem fs_bt_e (hn : fs_net m E F N ou) (h : fs_bt m s t E L T C) {x : Int} (x0 : 0 ≤ x) (x1 : x < 16) (hc : 0 ≤ C x) : T (E (C x)) = T x ∧ T (E (fs_x (C x))) = T x := by
  have a := fs_bt_v hn h x0 x1 hc
  have e1 := a.2.2.2.1
  have e2 := a.2.2.2.2.1
  unfold fs_pa at e2
  by_cases c : T x = 1
  · rw [c, fs_ae1] at e1 e2
    rw [e1, e2, c]
    exact ⟨rfl, rfl⟩
  · rw [fs_aen c] at e1 e2
    rw [fs_xx] at e2
    rw [e1, e2]
    exact ⟨rfl, rfl⟩
/-- two parent edges -/
theorem fs_bt_dj (hn : fs_net m E F N ou) (h : fs_bt m s t E L T C) {x y : Int} (x0 : 0 ≤ x) (x1 : x < 16) (hx : 0 ≤ C x) (y0 : 0 ≤ y) (y1 : y < 16) (hy : 0 ≤ C y) (hne : y ≠ x) : C y ≠ C x ∧ (C y = fs_x (C x) → T y = T x ∧ y = fs_pa E C T x ∧ fs_pa E C T y = x) := by
  have ax := fs_bt_v hn h x0 x1 hx
  have ay := fs_bt_v hn h y0 y1 hy
  have ex := fs_bt_e hn h x0 x1 hx
  have ey := fs_bt_e hn h y0 y1 hy
  refine ⟨fun z => hne ?_, fun z => ?_⟩
  · have ht : T y = T x := by
      rw [← ey.1, z, ex.1]
    have w := ay.2.2.2.1
    rw [ht, z, ax.2.2.2.1] at w
    exact w.symm
  · have ht : T y = T x := by
      rw [← ey.1, z, ex.2]
    refine ⟨ht, ?_, ?_⟩
    · have w := ay.2.2.2.1
      rw [ht, z, fs_aex] at w
      exact w.symm
    · unfold fs_pa
      rw [ht, z, fs_aex, fs_xx]
      exact ax.2.2.2.1
theorem fs_tm_m {C' : Int → Int} (hc : ∀ y, C' y = C y ∨ C' y = -1) : ∀ {l : List Int} {x : Int}, fs_tm E C T l x → ∃ l', fs_tm E C' T l' x := by
  intro l
  induction l with
  | nil =>
    intro x h
    refine ⟨[], ?_⟩
    have h' : C x < 0 := h
    have w := hc x
    show C' x < 0
    omega
  | cons y l ih =>
    intro x h
    rcases hc x with w | w
    · obtain ⟨l', hl'⟩ := ih h.2.2
      refine ⟨x :: l', rfl, by rw [w]; exact h.2.1, ?_⟩
      unfold fs_pa at hl' ⊢
      rw [w]
      exact hl'
    · exact ⟨[], by show C' x < 0; omega⟩
/-- no orphans: the parents lead to the root -/
theorem fs_tm_rr (hn : fs_net m E F N ou) (h : fs_bt m s t E L T C) (ho : ∀ x, 0 ≤ x → x < 16 → x ≠ s → x ≠ t → T x ≠ 0 → C x ≠ -1) : ∀ {l : List Int} {x : Int}, 0 ≤ x → x < 16 → T x ≠ 0 → fs_tm E C T l x → fs_rr E C T (if T x = 1 then s else t) l x := by
  intro l
  induction l with
  | nil =>
    intro x x0 x1 hT hl
    have hl' : C x < 0 := hl
    show x = if T x = 1 then s else t
    by_cases c : x = s
    · rw [c, if_pos h.2.1]
    · by_cases c2 : x = t
      · rw [c2, if_neg (by rw [h.2.2.1]; decide)]
      · rcases h.2.2.2.2.2.1 x x0 x1 with w | w
        · exact absurd w (ho x x0 x1 c c2 hT)
        · omega
  | cons y l ih =>
    intro x x0 x1 hT hl
    have a := fs_bt_v hn h x0 x1 hl.2.1
    refine ⟨hl.1, ?_, hl.2.1, ?_⟩
    · split
      · exact a.2.2.2.2.2.2.2.1
      · exact a.2.2.2.2.2.2.2.2.1
    · have w := ih a.2.2.2.2.2.1 a.2.2.2.2.2.2.1 (by rw [a.2.2.2.2.1]; exact hT) hl.2.2
      rw [a.2.2.2.2.1] at w
      exact w
theorem fs_rr_c {o : Int} {C' : Int → Int} : ∀ {l : List Int} {x : Int}, (∀ y, y ∈ l → C' y = C y) → fs_rr E C T o l x → fs_rr E C' T o l x := by
  intro l
  induction l with
  | nil => intro x _ h; exact h
  | cons y l ih =>
    intro x hc h
    have e : y = x := h.1
    subst e
    have w := hc y List.mem_cons_self
    refine ⟨rfl, h.2.1, by rw [w]; exact h.2.2.1, ?_⟩
    have p : fs_pa E C' T y = fs_pa E C T y := by
      unfold fs_pa
      rw [w]
    rw [p]
    exact ih (fun z hz => hc z (List.mem_cons_of_mem _ hz)) h.2.2.2
theorem fs_rr_u {o : Int} : ∀ {l l' : List Int} {x : Int}, fs_rr E C T o l x → fs_rr E C T o l' x → l = l' := by
  intro l
  induction l with
  | nil =>
    intro l' x h h'
    cases l' with
    | nil => rfl
    | cons y l' => exact absurd h h'.2.1
  | cons y l ih =>
    intro l' x h h'
    cases l' with
    | nil => exact absurd h' h.2.1
    | cons z l' => rw [ih h.2.2.2 h'.2.2.2, h.1, h'.1]
theorem fs_rr_s {o : Int} : ∀ {l : List Int} {x y : Int}, fs_rr E C T o l x → y ∈ l → ∃ l', fs_rr E C T o (y :: l') y ∧ l'.length < l.length := by
  intro l
  induction l with
  | nil => intro x y _ hy; cases hy
  | cons z l ih =>
    intro x y h hy
    have e : z = x := h.1
    subst e
    rcases List.mem_cons.mp hy with g | g
    · rw [g]
      exact ⟨l, h, by rw [List.length_cons]; omega⟩
    · obtain ⟨l', h1, h2⟩ := ih h.2.2.2 g
      exact ⟨l', h1, by rw [List.length_cons]; omega⟩
theorem fs_rr_nd {o : Int} : ∀ {l : List Int} {x : Int}, fs_rr E C T o l x → l.Nodup := by
  intro l
  induction l with
  | nil => intro x _; exact List.nodup_nil
  | cons y l ih =>
    intro x h
    have e : y = x := h.1
    subst e
    refine List.nodup_cons.mpr ⟨fun z => ?_, ih h.2.2.2⟩
    obtain ⟨l', h1, h2⟩ := fs_rr_s h.2.2.2 z
    have w := fs_rr_u h h1
    have v : (y :: l).length = (y :: l').length := by rw [w]
    rw [List.length_cons, List.length_cons] at v
    omega
/-- nodes on the way to the root -/
theorem fs_rr_in (hn : fs_net m E F N ou) (h : fs_bt m s t E L T C) {o : Int} : ∀ {l : List Int} {x : Int}, 0 ≤ x → x < 16 → fs_rr E C T o l x → ∀ y, y ∈ l → 0 ≤ y ∧ y < 16 ∧ 0 ≤ C y ∧ T y = T x := by
  intro l
  induction l with
  | nil => intro x _ _ _ y hy; cases hy
  | cons z l ih =>
    intro x x0 x1 hl y hy
    have e : z = x := hl.1
    subst e
    have a := fs_bt_v hn h x0 x1 hl.2.2.1
    rcases List.mem_cons.mp hy with g | g
    · rw [g]
      exact ⟨x0, x1, hl.2.2.1, rfl⟩
    · have w := ih a.2.2.2.2.2.1 a.2.2.2.2.2.2.1 hl.2.2.2 y g
      rw [a.2.2.2.2.1] at w
      exact w
/-- no parent edge is the partner of the first one -/
theorem fs_rr_cy (hn : fs_net m E F N ou) (h : fs_bt m s t E L T C) {o x : Int} {l : List Int} (ho : C o = -1) (x0 : 0 ≤ x) (x1 : x < 16) (hl : fs_rr E C T o (x :: l) x) {y : Int} (y0 : 0 ≤ y) (y1 : y < 16) (hy : 0 ≤ C y) (hne : y ≠ x) : C y ≠ C x ∧ C y ≠ fs_x (C x) := by
  have d := fs_bt_dj hn h x0 x1 hl.2.2.1 y0 y1 hy hne
  refine ⟨d.1, fun z => ?_⟩
  have w := d.2 z
  have nd := List.nodup_cons.mp (fs_rr_nd hl)
  have tl := hl.2.2.2
  rw [← w.2.1] at tl
  cases l with
  | nil =>
    have e : y = o := tl
    rw [e, ho] at hy
    omega
  | cons v l2 =>
    have tl2 := tl.2.2.2
    rw [w.2.2] at tl2
    cases l2 with
    | nil => exact hl.2.1 tl2
    | cons v2 l3 =>
      have e : v2 = x := tl2.1
      exact nd.1 (by rw [← e]; exact List.mem_cons_of_mem _ List.mem_cons_self)
/-- rooms change, parent edges keep some -/
theorem fs_bt_L {L' : Int → Int} (h : fs_bt m s t E L T C) (hL : ∀ x, 0 ≤ x → x < 16 → 0 ≤ C x → 1 ≤ L' (C x)) : fs_bt m s t E L' T C := by
  obtain ⟨h1, h2, h3, h4, h5, h6, h7⟩ := h
  refine ⟨h1, h2, h3, h4, h5, fun x x0 x1 => ?_, h7⟩
  rcases h6 x x0 x1 with w | w
  · exact Or.inl w
  · exact Or.inr ⟨w.1, w.2.1, w.2.2.1, hL x x0 x1 w.2.1, w.2.2.2.2.1, w.2.2.2.2.2⟩
/-- a node loses its parent edge, and rooms change -/
theorem fs_bt_cut {L' : Int → Int} {x : Int} (h : fs_bt m s t E L T C) (hL : ∀ y, 0 ≤ y → y < 16 → y ≠ x → 0 ≤ C y → 1 ≤ L' (C y)) : fs_bt m s t E L' T (fs_u C x (-1)) := by
  obtain ⟨h1, h2, h3, h4, h5, h6, h7⟩ := h
  have cc : ∀ y, fs_u C x (-1) y = C y ∨ fs_u C x (-1) y = -1 := fun y => by
    by_cases c : y = x
    · rw [c, fs_us]
      exact Or.inr rfl
    · rw [fs_un c]
      exact Or.inl rfl
  have neg : ∀ y, C y = -1 → fs_u C x (-1) y = -1 := fun y hy => by
    rcases cc y with w | w
    · rw [w, hy]
    · exact w
  refine ⟨h1, h2, h3, neg s h4, neg t h5, fun y y0 y1 => ?_, fun y y0 y1 hy => ?_⟩
  · by_cases c : y = x
    · rw [c, fs_us]
      exact Or.inl rfl
    · have p : fs_pa E (fs_u C x (-1)) T y = fs_pa E C T y := by
        unfold fs_pa
        rw [fs_un c]
      rw [p, fs_un c]
      rcases h6 y y0 y1 with w | w
      · exact Or.inl w
      · exact Or.inr ⟨w.1, w.2.1, w.2.2.1, hL y y0 y1 c w.2.1, w.2.2.2.2.1, w.2.2.2.2.2⟩
  · obtain ⟨l, hl⟩ := h7 y y0 y1 hy
    exact fs_tm_m cc hl
end
end
section
/-! part 15: engine 6: parentOf, isRooted, findParent -/
section
variable {m s t : Int} {E F N K L T C : Int → Int} {ou : Int → List Int} {pr so sk ed fw qf qs oc : Int32} {a1 a2 a3 a4 a5 a6 a7 a8 a9 a10 a11 a12 a13 a14 a15 a16 a17 a18 a19 : Nat → Int32}
theorem fs_par {post : Int32 → Prop} {x : Int} {p0 : Int32} (x0 : 0 ≤ x) (x1 : x < 16) (c0 : 0 ≤ C x) (c1 : C x < 56) (hT : T x = 0 ∨ T x = 1 ∨ T x = 2) (H : post (fs_i (fs_pa E C T x))) (hp : p0 = fs_i x := by rfl) : wpX_parentOf post (pr, so, sk, ed, fw, qf, qs, oc, a1, a2, a3, fs_a E, a5, a6, a7, a8, a9, fs_a C, a11, a12, a13, a14, a15, a16, a17, fs_a T, a19) p0 := by
  subst hp
  unfold wpX_parentOf
  dsimp only
  have xb := fs_xb c0
  have xb2 := xb.2.2 28
  rw [fs_rd (L := T) x0 (by omega), fs_rd (L := C) x0 (by omega), fs_xor c0 c1, fs_rd (L := E) xb.1 (by omega), fs_rd (L := E) c0 (by omega)]
  refine ⟨fs_in x0 (by omega), fs_eq (T x) 1 (fun g => ⟨fs_in x0 (by omega), fs_in xb.1 (by omega), ?_⟩) (fun g => ⟨fs_in x0 (by omega), fs_in c0 (by omega), ?_⟩)⟩
  · unfold fs_pa at H
    rw [g, fs_ae1] at H
    exact H
  · unfold fs_pa at H
    rw [fs_aen g, fs_xx] at H
    exact H
theorem fs_mko {post : St2 → Prop} {O : Int → Int} {x oc : Int} {p0 : Int32} (x0 : 0 ≤ x) (x1 : x < 16) (o0 : 0 ≤ oc) (o1 : oc < 64) (H : post (pr, so, sk, ed, fw, qf, qs, fs_i (oc + 1), a1, a2, a3, a4, a5, a6, a7, a8, a9, fs_a (fs_u C x (-1)), a11, a12, a13, a14, a15, a16, a17, a18, fs_a (fs_u O oc x))) (hp : p0 = fs_i x := by rfl) : wpX_makeOrphan post (pr, so, sk, ed, fw, qf, qs, fs_i oc, a1, a2, a3, a4, a5, a6, a7, a8, a9, fs_a C, a11, a12, a13, a14, a15, a16, a17, a18, fs_a O) p0 := by
  subst hp
  unfold wpX_makeOrphan
  dsimp only
  exact ⟨fs_in x0 (by omega), nm_r (e' := fs_a (fs_u C x (-1))) (fs_uq x0 (by omega) (by decide)) ⟨fs_in o0 (by omega), nm_r (e' := fs_a (fs_u O oc x)) (by rw [fs_b8 (by omega) (by omega), fs_up o0 (by omega)]) (nm_r (fs_p1 oc) H)⟩⟩
theorem fs_or_push {O T : Int → Int} {x oc : Int} {ol : List Int} (h : fs_or s t O T C oc ol) (x0 : 0 ≤ x) (x1 : x < 16) (xs : x ≠ s) (xt : x ≠ t) (hT : T x ≠ 0) (hc : 0 ≤ C x) : fs_or s t (fs_u O oc x) T (fs_u C x (-1)) (oc + 1) (x :: ol) := by
  obtain ⟨h1, h2, h3, h4, h5⟩ := h
  have hni : x ∉ ol := fun z => by
    have w := (h4 x z).2.2.2.2.2
    omega
  refine ⟨?_, ⟨?_, ?_⟩, List.nodup_cons.mpr ⟨hni, h3⟩, fun y hy => ?_, fun y y0 y1 ys yt hy hcy => ?_⟩
  · rw [List.length_cons]
    omega
  · rw [← h1, fs_us]
  · exact fs_os_c (by omega) h2
  · rcases List.mem_cons.mp hy with g | g
    · rw [g, fs_us]
      exact ⟨x0, x1, xs, xt, hT, rfl⟩
    · have w := h4 y g
      rw [fs_un (fun z => hni (by rw [← z]; exact g))]
      exact w
  · by_cases c : y = x
    · rw [c]
      exact List.mem_cons_self
    · rw [fs_un c] at hcy
      exact List.mem_cons_of_mem _ (h5 y y0 y1 ys yt hy hcy)
theorem fs_isr_2 {post : Int32 → Prop} (hn : fs_net m E F N ou) (h : fs_bt m s t E L T C) (s0 : 0 ≤ s) (s1 : s < 16) (t0 : 0 ≤ t) (t1 : t < 16) (H0 : post 0) :
    ∀ (n : Nat) (l : List Int) (x : Int), 0 ≤ x → x < 16 → T x ≠ 0 → fs_tm E C T l x → (fs_rr E C T (if T x = 1 then s else t) l x → post 1) → l.length < n →
      wX_isRooted_2 post pr (fs_i s) (fs_i t) ed fw qf qs oc a1 a2 a3 (fs_a E) (fs_a L) a6 a7 a8 a9 (fs_a C) a11 a12 a13 a14 a15 a16 a17 (fs_a T) a19 n (fs_i x) := by
  intro n
  induction n with
  | zero => intro l x _ _ _ _ _ h; omega
  | succ n ih =>
    intro l x x0 x1 hT hl H1 hlen
    have hm := fs_net_m hn
    unfold wX_isRooted_2
    have atroot : (x = s ∨ x = t) → post 1 := fun hx => by
      refine H1 ?_
      cases l with
      | nil =>
        show x = if T x = 1 then s else t
        rcases hx with g | g
        · rw [g, if_pos h.2.1]
        · rw [g, if_neg (by rw [h.2.2.1]; decide)]
      | cons y l =>
        have w := hl.2.1
        rcases hx with g | g
        · rw [g, h.2.2.2.1] at w
          omega
        · rw [g, h.2.2.2.2.1] at w
          omega
    have fin : wX_isRooted_36 post (fs_i x) pr (fs_i s) (fs_i t) ed fw qf qs oc a1 a2 a3 (fs_a E) (fs_a L) a6 a7 a8 a9 (fs_a C) a11 a12 a13 a14 a15 a16 a17 (fs_a T) a19 := by
      unfold wX_isRooted_36
      exact fs_eq x s (fun g => atroot (Or.inl g)) (fun _ => fs_eq x t (fun g => atroot (Or.inr g)) (fun _ => H0))
    refine fs_eq x s (fun _ => fin) (fun g => ?_)
    refine fs_eq x t (fun _ => fin) (fun g2 => ⟨fs_in x0 (by omega), ?_⟩)
    rw [fs_rd (L := C) x0 (by omega)]
    cases l with
    | nil =>
      have hl' : C x < 0 := hl
      have w := h.2.2.2.2.2.1 x x0 x1
      exact fs_lt (C x) 0 (fun _ => fin) (fun z => absurd z (by omega))
    | cons y l =>
      have a := fs_bt_v hn h x0 x1 hl.2.1
      have e : y = x := hl.1
      subst e
      rw [List.length_cons] at hlen
      have hcy : 0 ≤ C y := hl.2.1
      refine fs_lt (C y) 0 (fun z => absurd hcy (by omega)) (fun _ => ?_)
      refine fs_par x0 x1 hl.2.1 (by omega) (h.1 y x0 x1) ?_
      refine ih l _ a.2.2.2.2.2.1 a.2.2.2.2.2.2.1 (by rw [a.2.2.2.2.1]; exact hT) hl.2.2 (fun hr => H1 ⟨rfl, ?_, hl.2.1, ?_⟩) (by omega)
      · split
        · exact g
        · exact g2
      · rw [a.2.2.2.2.1] at hr
        exact hr
theorem fs_isr {post : Int32 → Prop} {x : Int} (hn : fs_net m E F N ou) (h : fs_bt m s t E L T C) (s0 : 0 ≤ s) (s1 : s < 16) (t0 : 0 ≤ t) (t1 : t < 16) (x0 : 0 ≤ x) (x1 : x < 16) (hT : T x ≠ 0) (H0 : post 0) (H1 : ∀ l, fs_rr E C T (if T x = 1 then s else t) l x → post 1) :
    wpX_isRooted post (pr, fs_i s, fs_i t, ed, fw, qf, qs, oc, a1, a2, a3, fs_a E, fs_a L, a6, a7, a8, a9, fs_a C, a11, a12, a13, a14, a15, a16, a17, fs_a T, a19) (fs_i x) := by
  unfold wpX_isRooted
  dsimp only
  obtain ⟨l, hl⟩ := h.2.2.2.2.2.2 x x0 x1 hT
  exact ⟨l.length + 1, fs_isr_2 hn h s0 s1 t0 t1 H0 _ l x x0 x1 hT hl (H1 l) (by omega)⟩
theorem fs_ae_b (hn : fs_net m E F N ou) {a e : Int} (e0 : 0 ≤ e) (e1 : e < m) : 0 ≤ fs_ae a e ∧ fs_ae a e < m := by
  unfold fs_ae
  split
  · exact ⟨e0, e1⟩
  · exact fs_net_x hn e0 e1
theorem fs_fpa_7 {post : Int32 → St2 → Prop} {u : Int} (hn : fs_net m E F N ou) (hlp : fs_lp m K L) (h : fs_bt m s t E L T C) (s0 : 0 ≤ s) (s1 : s < 16) (t0 : 0 ≤ t) (t1 : t < 16) (u0 : 0 ≤ u) (u1 : u < 16) (hT : T u ≠ 0)
    (H0 : post 0 (pr, fs_i s, fs_i t, ed, fw, qf, qs, oc, a1, a2, a3, fs_a E, fs_a L, fs_a F, fs_a N, a8, a9, fs_a C, a11, a12, a13, a14, a15, a16, a17, fs_a T, a19))
    (H1 : ∀ e l, e ∈ ou u → T (E e) = T u → 1 ≤ L (fs_ae (T u) (fs_x e)) → fs_rr E C T (if T u = 1 then s else t) l (E e) → post 1 (pr, fs_i s, fs_i t, ed, fw, qf, qs, oc, a1, a2, a3, fs_a E, fs_a L, fs_a F, fs_a N, a8, a9, fs_a (fs_u C u (fs_ae (T u) (fs_x e))), a11, a12, a13, a14, a15, a16, a17, fs_a T, a19)) :
    ∀ (n : Nat) (l : List Int) (e : Int), fs_ch N l e → (∀ x, x ∈ l → x ∈ ou u) → l.length < n →
      wX_findParent_7 post (fs_i u) pr (fs_i s) (fs_i t) ed fw qf qs oc a1 a2 a3 (fs_a E) (fs_a L) (fs_a F) (fs_a N) a8 a9 (fs_a C) a11 a12 a13 a14 a15 a16 a17 (fs_a T) a19 n (fs_i e) := by
  intro n
  induction n with
  | zero => intro l e _ _ h; omega
  | succ n ih =>
    intro l e hc hs hl
    unfold wX_findParent_7
    cases l with
    | nil =>
      have he : e = -1 := hc
      subst he
      exact fs_lt (-1) 0 (fun _ => H0) (fun g => absurd g (by omega))
    | cons x l =>
      have he : e = x := hc.1
      subst he
      rw [List.length_cons] at hl
      have hm := fs_net_m hn
      have hmem := hs e List.mem_cons_self
      have eo := fs_net_ou hn u0 u1 hmem
      have et := fs_net_to hn eo.1 eo.2.1
      have ex := fs_net_x hn eo.1 eo.2.1
      have ea := fs_ae_b (a := T u) hn ex.1 ex.2
      have lb := fs_lp_b hn hlp ea.1 ea.2
      have tu := h.1 u u0 u1
      have te := h.1 (E e) et.1 et.2.1
      have nx : vp_in (fs_i e) 56 ∧ ∀ y : Int32, y = fs_a N (fs_i e).toNatClampNeg → wX_findParent_7 post (fs_i u) pr (fs_i s) (fs_i t) ed fw qf qs oc a1 a2 a3 (fs_a E) (fs_a L) (fs_a F) (fs_a N) a8 a9 (fs_a C) a11 a12 a13 a14 a15 a16 a17 (fs_a T) a19 n y :=
        ⟨fs_in eo.1 (by omega), nm_r (fs_rd eo.1 (by omega)) (ih l (N e) hc.2 (fun y hy => hs y (List.mem_cons_of_mem _ hy)) (by omega))⟩
      have go : wX_findParent_35 post (wX_findParent_7 post (fs_i u) pr (fs_i s) (fs_i t) ed fw qf qs oc a1 a2 a3 (fs_a E) (fs_a L) (fs_a F) (fs_a N) a8 a9 (fs_a C) a11 a12 a13 a14 a15 a16 a17 (fs_a T) a19 n) (fs_i u) (fs_i e) (fs_i (E e)) (fs_i (fs_ae (T u) (fs_x e))) pr (fs_i s) (fs_i t) ed fw qf qs oc a1 a2 a3 (fs_a E) (fs_a L) (fs_a F) (fs_a N) a8 a9 (fs_a C) a11 a12 a13 a14 a15 a16 a17 (fs_a T) a19 := by
        unfold wX_findParent_35
        rw [fs_rd (L := T) et.1 (by omega), fs_rd (L := T) u0 (by omega), fs_rd (L := L) ea.1 (by omega)]
        refine ⟨fs_in et.1 (by omega), fs_in u0 (by omega), fs_eq (T (E e)) (T u) (fun g => ⟨fs_in ea.1 (by omega), ?_⟩) (fun g => nx)⟩
        refine fs_le (L (fs_ae (T u) (fs_x e))) 0 (fun g2 => nx) (fun g2 => ?_)
        refine fs_isr hn h s0 s1 t0 t1 et.1 et.2.1 (by rw [g]; exact hT) (br_t rfl nx) (fun l' hr => br_f (by decide) ⟨fs_in u0 (by omega), nm_r (e' := fs_a (fs_u C u (fs_ae (T u) (fs_x e)))) (by rw [fs_b8 (by omega) (by omega), fs_up u0 (by omega)]) (H1 e l' hmem g (by omega) ?_)⟩)
        rw [g] at hr
        exact hr
      refine fs_lt e 0 (fun g => absurd g (by omega)) (fun _ => ⟨fs_in eo.1 (by omega), nm_r (fs_rd eo.1 (by omega)) ⟨fs_in u0 (by omega), ?_⟩⟩)
      rw [fs_rd (L := T) u0 (by omega), fs_xor eo.1 (by omega)]
      refine fs_eq (T u) 1 (fun g => ?_) (fun g => ?_)
      · rw [g, fs_ae1] at go
        exact go
      · rw [fs_aen g, fs_xx] at go
        exact go
theorem fs_fpa {post : Int32 → St2 → Prop} {u : Int} (hn : fs_net m E F N ou) (hlp : fs_lp m K L) (h : fs_bt m s t E L T C) (s0 : 0 ≤ s) (s1 : s < 16) (t0 : 0 ≤ t) (t1 : t < 16) (u0 : 0 ≤ u) (u1 : u < 16) (hT : T u ≠ 0)
    (H0 : post 0 (pr, fs_i s, fs_i t, ed, fw, qf, qs, oc, a1, a2, a3, fs_a E, fs_a L, fs_a F, fs_a N, a8, a9, fs_a C, a11, a12, a13, a14, a15, a16, a17, fs_a T, a19))
    (H1 : ∀ e l, e ∈ ou u → T (E e) = T u → 1 ≤ L (fs_ae (T u) (fs_x e)) → fs_rr E C T (if T u = 1 then s else t) l (E e) → post 1 (pr, fs_i s, fs_i t, ed, fw, qf, qs, oc, a1, a2, a3, fs_a E, fs_a L, fs_a F, fs_a N, a8, a9, fs_a (fs_u C u (fs_ae (T u) (fs_x e))), a11, a12, a13, a14, a15, a16, a17, fs_a T, a19)) :
    wpX_findParent post (pr, fs_i s, fs_i t, ed, fw, qf, qs, oc, a1, a2, a3, fs_a E, fs_a L, fs_a F, fs_a N, a8, a9, fs_a C, a11, a12, a13, a14, a15, a16, a17, fs_a T, a19) (fs_i u) := by
  unfold wpX_findParent
  dsimp only
  exact ⟨fs_in u0 (by omega), nm_r (fs_rd u0 (by omega)) ⟨(ou u).length + 1, fs_fpa_7 hn hlp h s0 s1 t0 t1 u0 u1 hT H0 H1 _ (ou u) (F u) (fs_net_ch hn u0 u1) (fun x hx => hx) (by omega)⟩⟩
/-- an orphan has found a parent -/
theorem fs_bt_ad {u e : Int} {lv : List Int} (hn : fs_net m E F N ou) (h : fs_bt m s t E L T C) (u0 : 0 ≤ u) (u1 : u < 16) (us : u ≠ s) (ut : u ≠ t) (hT : T u ≠ 0) (hc : C u = -1) (he : e ∈ ou u) (hv : T (E e) = T u) (hL : 1 ≤ L (fs_ae (T u) (fs_x e))) (hr : fs_rr E C T (if T u = 1 then s else t) lv (E e)) :
    fs_bt m s t E L T (fs_u C u (fs_ae (T u) (fs_x e))) := by
  have eo := fs_net_ou hn u0 u1 he
  have et := fs_net_to hn eo.1 eo.2.1
  have ex := fs_net_x hn eo.1 eo.2.1
  have ea := fs_ae_b (a := T u) hn ex.1 ex.2
  have h0 := h
  obtain ⟨h1, h2, h3, h4, h5, h6, h7⟩ := h
  have pu : fs_pa E (fs_u C u (fs_ae (T u) (fs_x e))) T u = E e := by
    unfold fs_pa
    rw [fs_us, fs_aea, fs_xx]
  have po : ∀ y, y ≠ u → fs_pa E (fs_u C u (fs_ae (T u) (fs_x e))) T y = fs_pa E C T y := fun y hy => by
    unfold fs_pa
    rw [fs_un hy]
  have nin : ∀ y, y ∈ lv → y ≠ u := fun y hy z => by
    have w := fs_rr_in hn h0 et.1 et.2.1 hr y hy
    rw [z, hc] at w
    omega
  have tmv : fs_tm E (fs_u C u (fs_ae (T u) (fs_x e))) T lv (E e) := by
    have key : ∀ (l : List Int) (x : Int), (∀ y, y ∈ l → y ≠ u) → fs_rr E C T (if T u = 1 then s else t) l x → fs_tm E (fs_u C u (fs_ae (T u) (fs_x e))) T l x := by
      intro l
      induction l with
      | nil =>
        intro x _ hx
        have hx' : x = if T u = 1 then s else t := hx
        show fs_u C u (fs_ae (T u) (fs_x e)) x < 0
        split at hx'
        · rw [hx', fs_un (fun z => us z.symm), h4]
          decide
        · rw [hx', fs_un (fun z => ut z.symm), h5]
          decide
      | cons y l ih =>
        intro x hy hx
        have e1 : y = x := hx.1
        subst e1
        have w := hy y List.mem_cons_self
        refine ⟨rfl, by rw [fs_un w]; exact hx.2.2.1, ?_⟩
        rw [po y w]
        exact ih _ (fun z hz => hy z (List.mem_cons_of_mem _ hz)) hx.2.2.2
    exact key lv (E e) nin hr
  refine ⟨h1, h2, h3, by rw [fs_un (fun z => us z.symm)]; exact h4, by rw [fs_un (fun z => ut z.symm)]; exact h5, fun y y0 y1 => ?_, fun y y0 y1 hy => ?_⟩
  · by_cases c : y = u
    · rw [c, pu, fs_us, fs_aea]
      exact Or.inr ⟨hT, ea.1, ea.2, hL, eo.2.2, hv⟩
    · rw [po y c, fs_un c]
      exact h6 y y0 y1
  · obtain ⟨l, hl⟩ := h7 y y0 y1 hy
    have key : ∀ (l : List Int) (x : Int), fs_tm E C T l x → ∃ l', fs_tm E (fs_u C u (fs_ae (T u) (fs_x e))) T l' x := by
      intro l
      induction l with
      | nil =>
        intro x hx
        by_cases c : x = u
        · refine ⟨x :: lv, rfl, ?_, ?_⟩
          · rw [c, fs_us]
            exact ea.1
          · rw [c, pu]
            exact tmv
        · refine ⟨[], ?_⟩
          show fs_u C u (fs_ae (T u) (fs_x e)) x < 0
          rw [fs_un c]
          exact hx
      | cons z l ih =>
        intro x hx
        have c : x ≠ u := fun y => by
          have w := hx.2.1
          rw [y, hc] at w
          omega
        obtain ⟨l', hl'⟩ := ih _ hx.2.2
        refine ⟨x :: l', rfl, by rw [fs_un c]; exact hx.2.1, ?_⟩
        rw [po x c]
        exact hl'
    exact key l y hl
end
end
section
/-! part 16: engine 6: setFree, adopt -/
section
variable {m s t : Int} {E F N K L T : Int → Int} {ou : Int → List Int}
/-- a node without children leaves its tree -/
theorem fs_bt_fr {u : Int} {C : Int → Int} (hn : fs_net m E F N ou) (h : fs_bt m s t E L T C) (u0 : 0 ≤ u) (u1 : u < 16) (us : u ≠ s) (ut : u ≠ t) (hc : C u = -1) (hch : ∀ e, e ∈ ou u → T (E e) = T u → ¬ (0 ≤ C (E e) ∧ fs_pa E C T (E e) = u)) : fs_bt m s t E L (fs_u T u 0) C := by
  have h0 := h
  obtain ⟨h1, h2, h3, h4, h5, h6, h7⟩ := h
  have nch : ∀ x, 0 ≤ x → x < 16 → 0 ≤ C x → fs_pa E C T x ≠ u := fun x x0 x1 hx z => by
    have a := fs_bt_v hn h0 x0 x1 hx
    have b := fs_ae_b (a := T x) hn hx a.2.1
    have o := (fs_net_to hn b.1 b.2).2.2.2
    have o2 : fs_ae (T x) (C x) ∈ ou u := by
      have w : E (fs_x (fs_ae (T x) (C x))) = u := z
      rw [← w]
      exact o
    refine hch _ o2 ?_ ?_
    · rw [a.2.2.2.1, ← a.2.2.2.2.1, z]
    · rw [a.2.2.2.1]
      exact ⟨hx, z⟩
  have po : ∀ x, x ≠ u → fs_pa E C (fs_u T u 0) x = fs_pa E C T x := fun x hx => by
    unfold fs_pa
    rw [fs_un hx]
  refine ⟨fun x x0 x1 => ?_, by rw [fs_un (fun z => us z.symm)]; exact h2, by rw [fs_un (fun z => ut z.symm)]; exact h3, h4, h5, fun x x0 x1 => ?_, fun x x0 x1 hx => ?_⟩
  · by_cases c : x = u
    · rw [c, fs_us]
      exact Or.inl rfl
    · rw [fs_un c]
      exact h1 x x0 x1
  · rcases h6 x x0 x1 with w | w
    · exact Or.inl w
    · have c : x ≠ u := fun z => by
        have v := w.2.1
        rw [z, hc] at v
        omega
      rw [po x c, fs_un c, fs_un (nch x x0 x1 w.2.1)]
      exact Or.inr w
  · have c : x ≠ u := fun z => by
      rw [z, fs_us] at hx
      exact hx rfl
    rw [fs_un c] at hx
    obtain ⟨l, hl⟩ := h7 x x0 x1 hx
    have key : ∀ (l : List Int) (x : Int), 0 ≤ x → x < 16 → x ≠ u → fs_tm E C T l x → fs_tm E C (fs_u T u 0) l x := by
      intro l
      induction l with
      | nil => intro x _ _ _ hx; exact hx
      | cons y l ih =>
        intro x x0 x1 c hx
        have a := fs_bt_v hn h0 x0 x1 hx.2.1
        refine ⟨hx.1, hx.2.1, ?_⟩
        rw [po x c]
        exact ih _ a.2.2.2.2.2.1 a.2.2.2.2.2.2.1 (nch x x0 x1 hx.2.1) hx.2.2
    exact ⟨l, key l x x0 x1 c hl⟩
theorem fs_bo_fr {u : Int} {q q' : List Int} (hn : fs_net m E F N ou) (h : fs_bo E L T ou q) (u0 : 0 ≤ u) (u1 : u < 16) (hq : ∀ y, y ∈ q → y ∈ q') (hen : ∀ e, e ∈ ou u → T (E e) = T u → 1 ≤ L (fs_ae (T u) (fs_x e)) → E e ∈ q') : fs_bo E L (fs_u T u 0) ou q' := by
  intro x x0 x1 hx xq e he hl
  have c : x ≠ u := fun z => by
    rw [z, fs_us] at hx
    exact hx rfl
  rw [fs_un c] at hx hl ⊢
  have a := h x x0 x1 hx (fun z => xq (hq x z)) e he hl
  by_cases c2 : E e = u
  · exfalso
    have eo := fs_net_ou hn x0 x1 he
    have ex := fs_net_fr hn eo.1 eo.2.1
    have o := ex.2.2
    rw [c2] at o a
    refine xq ?_
    have w := hen (fs_x e) o (by rw [eo.2.2]; exact a.symm) (by rw [fs_xx, a]; exact hl)
    rw [eo.2.2] at w
    exact w
  · rw [fs_un c2]
    exact a
end
section
variable {m s t : Int} {E F N K L T : Int → Int} {ou : Int → List Int} {post : St2 → Prop} {pr so sk ed fw qf qs oc : Int32} {a1 a2 a3 a4 a5 a6 a7 a8 a9 a10 a11 a12 a13 a14 a15 a16 a17 a18 a19 : Nat → Int32}
theorem fs_sfr_7 {f u : Int} {q0 : List Int} (hn : fs_net m E F N ou) (hlp : fs_lp m K L) (s0 : 0 ≤ s) (s1 : s < 16) (t0 : 0 ≤ t) (t1 : t < 16) (u0 : 0 ≤ u) (u1 : u < 16) (us : u ≠ s) (ut : u ≠ t) (hT : T u ≠ 0)
    (H : ∀ C O oc ol r Q D q, fs_bt m s t E L (fs_u T u 0) C → fs_or s t O (fs_u T u 0) C oc ol → fs_q f r Q D q → (∀ y, y ∈ q0 → y ∈ q) → (∀ e, e ∈ ou u → T (E e) = T u → 1 ≤ L (fs_ae (T u) (fs_x e)) → E e ∈ q) →
      post (pr, fs_i s, fs_i t, ed, fw, fs_i f, fs_i r, fs_i oc, a1, a2, a3, fs_a E, fs_a L, fs_a F, fs_a N, a8, a9, fs_a C, a11, a12, fs_a Q, fs_a D, a15, a16, a17, fs_a (fs_u T u 0), fs_a O)) :
    ∀ (n : Nat) (l : List Int) (e : Int) (C O : Int → Int) (oc : Int) (ol : List Int) (r : Int) (Q D : Int → Int) (q : List Int), fs_ch N l e → (∀ x, x ∈ l → x ∈ ou u) → fs_bt m s t E L T C → C u = -1 → fs_or s t O (fs_u T u 0) C oc ol → fs_q f r Q D q → (∀ y, y ∈ q0 → y ∈ q) →
      (∀ e, e ∈ ou u → e ∉ l → T (E e) = T u → 1 ≤ L (fs_ae (T u) (fs_x e)) → E e ∈ q) → (∀ e, e ∈ ou u → e ∉ l → T (E e) = T u → ¬ (0 ≤ C (E e) ∧ fs_pa E C T (E e) = u)) → l.length < n →
      wX_setFree_7 post (fs_i u) n (fs_i e) pr (fs_i s) (fs_i t) ed fw (fs_i f) (fs_i r) (fs_i oc) a1 a2 a3 (fs_a E) (fs_a L) (fs_a F) (fs_a N) a8 a9 (fs_a C) a11 a12 (fs_a Q) (fs_a D) a15 a16 a17 (fs_a T) (fs_a O) := by
  intro n
  induction n with
  | zero => intro l e C O oc ol r Q D q _ _ _ _ _ _ _ _ _ h; omega
  | succ n ih =>
    intro l e C O oc ol r Q D q hc hs hbt hcu hor hq hqq hen hch hl
    unfold wX_setFree_7
    cases l with
    | nil =>
      have he : e = -1 := hc
      subst he
      have nn : ∀ e : Int, e ∉ ([] : List Int) := fun e z => by cases z
      exact fs_lt (-1) 0 (fun _ => ⟨fs_in u0 (by omega), nm_r (e' := fs_a (fs_u T u 0)) (fs_uq u0 (by omega)) (H C O oc ol r Q D q (fs_bt_fr hn hbt u0 u1 us ut hcu (fun e he => hch e he (nn e))) hor hq hqq (fun e he => hen e he (nn e)))⟩) (fun g => absurd g (by omega))
    | cons x l =>
      have he : e = x := hc.1
      subst he
      rw [List.length_cons] at hl
      have hm := fs_net_m hn
      have hmem := hs e List.mem_cons_self
      have eo := fs_net_ou hn u0 u1 hmem
      have et := fs_net_to hn eo.1 eo.2.1
      have ex := fs_net_x hn eo.1 eo.2.1
      have ea := fs_ae_b (a := T u) hn ex.1 ex.2
      have lb := fs_lp_b hn hlp ea.1 ea.2
      have tu := hbt.1 u u0 u1
      have te := hbt.1 (E e) et.1 et.2.1
      have hne : E e ≠ u := by
        have w := et.2.2.1
        rw [eo.2.2] at w
        exact w
      have olb := fs_or_len hor
      have split1 : ∀ y, y ∈ ou u → y ∉ l → y = e ∨ y ∉ e :: l := fun y _ yl => by
        by_cases c : y = e
        · exact Or.inl c
        · exact Or.inr (fun z => by
            rcases List.mem_cons.mp z with w | w
            · exact c w
            · exact yl w)
      have nx : ∀ (C O : Int → Int) (oc : Int) (ol : List Int) (r : Int) (Q D : Int → Int) (q : List Int), fs_bt m s t E L T C → C u = -1 → fs_or s t O (fs_u T u 0) C oc ol → fs_q f r Q D q → (∀ y, y ∈ q0 → y ∈ q) →
          (∀ y, y ∈ ou u → y ∉ l → T (E y) = T u → 1 ≤ L (fs_ae (T u) (fs_x y)) → E y ∈ q) → (∀ y, y ∈ ou u → y ∉ l → T (E y) = T u → ¬ (0 ≤ C (E y) ∧ fs_pa E C T (E y) = u)) →
          vp_in (fs_i e) 56 ∧ ∀ y : Int32, y = fs_a N (fs_i e).toNatClampNeg → wX_setFree_7 post (fs_i u) n y pr (fs_i s) (fs_i t) ed fw (fs_i f) (fs_i r) (fs_i oc) a1 a2 a3 (fs_a E) (fs_a L) (fs_a F) (fs_a N) a8 a9 (fs_a C) a11 a12 (fs_a Q) (fs_a D) a15 a16 a17 (fs_a T) (fs_a O) :=
        fun C O oc ol r Q D q g1 g2 g3 g4 g5 g6 g7 => ⟨fs_in eo.1 (by omega), nm_r (fs_rd eo.1 (by omega)) (ih l (N e) C O oc ol r Q D q hc.2 (fun y hy => hs y (List.mem_cons_of_mem _ hy)) g1 g2 g3 g4 g5 g6 g7 (by omega))⟩
      have go67 : ∀ (r : Int) (Q D : Int → Int) (q : List Int), T (E e) = T u → fs_q f r Q D q → (∀ y, y ∈ q0 → y ∈ q) → (∀ y, y ∈ ou u → y ∉ l → T (E y) = T u → 1 ≤ L (fs_ae (T u) (fs_x y)) → E y ∈ q) →
          wX_setFree_67 post (wX_setFree_7 post (fs_i u) n) (fs_i u) (fs_i e) (fs_i (E e)) pr (fs_i s) (fs_i t) ed fw (fs_i f) (fs_i r) (fs_i oc) a1 a2 a3 (fs_a E) (fs_a L) (fs_a F) (fs_a N) a8 a9 (fs_a C) a11 a12 (fs_a Q) (fs_a D) a15 a16 a17 (fs_a T) (fs_a O) := by
        intro r Q D q gT g4 g5 g6
        unfold wX_setFree_67
        refine ⟨fs_in et.1 (by omega), ?_⟩
        rw [fs_rd (L := C) et.1 (by omega)]
        have cb : C (E e) = -1 ∨ (0 ≤ C (E e) ∧ C (E e) < m) := by
          rcases hbt.2.2.2.2.2.1 (E e) et.1 et.2.1 with w | w
          · exact Or.inl w
          · exact Or.inr ⟨w.2.1, w.2.2.1⟩
        refine fs_lt (C (E e)) 0 (fun g => nx C O oc ol r Q D q hbt hcu hor g4 g5 g6 (fun y hy yl hyT => ?_)) (fun g => ?_)
        · rcases split1 y hy yl with w | w
          · rw [w]
            exact fun z => by omega
          · exact hch y hy w hyT
        · have bv := fs_bt_v hn hbt et.1 et.2.1 g
          refine fs_par et.1 et.2.1 g (by omega) te ?_
          refine fs_eq (fs_pa E C T (E e)) u (fun g2 => ?_) (fun g2 => nx C O oc ol r Q D q hbt hcu hor g4 g5 g6 (fun y hy yl hyT => ?_))
          · refine fs_mko et.1 et.2.1 olb.1 (by omega) ?_
            have hor' := fs_or_push (x := E e) hor et.1 et.2.1 bv.2.2.2.2.2.2.2.1 bv.2.2.2.2.2.2.2.2.1 (by rw [fs_un hne]; exact bv.1) g
            refine nx _ _ (oc + 1) (E e :: ol) r Q D q (fs_bt_cut hbt (fun y y0 y1 _ hy => (fs_bt_v hn hbt y0 y1 hy).2.2.1)) (by rw [fs_un (fun z => hne z.symm)]; exact hcu) hor' g4 g5 g6 (fun y hy yl hyT => ?_)
            by_cases c : E y = E e
            · rw [c, fs_us]
              exact fun z => by omega
            · have p : fs_pa E (fs_u C (E e) (-1)) T (E y) = fs_pa E C T (E y) := by
                unfold fs_pa
                rw [fs_un c]
              rw [p, fs_un c]
              rcases split1 y hy yl with w | w
              · exact absurd (by rw [w]) c
              · exact hch y hy w hyT
          · rcases split1 y hy yl with w | w
            · rw [w]
              exact fun z => g2 z.2
            · exact hch y hy w hyT
      have go50 : T (E e) = T u → wX_setFree_50 post (wX_setFree_7 post (fs_i u) n) (fs_i u) (fs_i e) (fs_i (E e)) (fs_i (fs_ae (T u) (fs_x e))) pr (fs_i s) (fs_i t) ed fw (fs_i f) (fs_i r) (fs_i oc) a1 a2 a3 (fs_a E) (fs_a L) (fs_a F) (fs_a N) a8 a9 (fs_a C) a11 a12 (fs_a Q) (fs_a D) a15 a16 a17 (fs_a T) (fs_a O) := by
        intro gT
        unfold wX_setFree_50
        refine ⟨fs_in ea.1 (by omega), ?_⟩
        rw [fs_rd (L := L) ea.1 (by omega)]
        refine fs_le (L (fs_ae (T u) (fs_x e))) 0 (fun g => go67 r Q D q gT hq hqq (fun y hy yl hyT hyL => ?_)) (fun g => ?_)
        · rcases split1 y hy yl with w | w
          · rw [w] at hyL
            omega
          · exact hen y hy w hyT hyL
        · refine fs_enq hq et.1 et.2.1 (fun r' Q' D' q' hq' hqe => ?_)
          have hm' := (fs_ifm hqe).1
          refine go67 r' Q' D' q' gT hq' (fun y hy => (hm' y).mpr (Or.inl (hqq y hy))) (fun y hy yl hyT hyL => ?_)
          rcases split1 y hy yl with w | w
          · rw [w]
            exact (hm' _).mpr (Or.inr rfl)
          · exact (hm' _).mpr (Or.inl (hen y hy w hyT hyL))
      refine fs_lt e 0 (fun g => absurd g (by omega)) (fun _ => ⟨fs_in eo.1 (by omega), nm_r (fs_rd eo.1 (by omega)) ⟨fs_in et.1 (by omega), fs_in u0 (by omega), ?_⟩⟩)
      rw [fs_rd (L := T) et.1 (by omega), fs_rd (L := T) u0 (by omega), fs_xor eo.1 (by omega)]
      refine fs_eq (T (E e)) (T u) (fun g => ⟨fs_in u0 (by omega), ?_⟩) (fun g => nx C O oc ol r Q D q hbt hcu hor hq hqq (fun y hy yl hyT => ?_) (fun y hy yl hyT => ?_))
      · have go := go50 g
        refine fs_eq (T u) 1 (fun g2 => ?_) (fun g2 => ?_)
        · rw [g2, fs_ae1] at go
          exact go
        · rw [fs_aen g2, fs_xx] at go
          exact go
      · rcases split1 y hy yl with w | w
        · rw [w] at hyT
          exact absurd hyT g
        · exact hen y hy w hyT
      · rcases split1 y hy yl with w | w
        · rw [w] at hyT
          exact absurd hyT g
        · exact hch y hy w hyT
theorem fs_sfr {f r u oc : Int} {C O Q D : Int → Int} {q ol : List Int} (hn : fs_net m E F N ou) (hlp : fs_lp m K L) (s0 : 0 ≤ s) (s1 : s < 16) (t0 : 0 ≤ t) (t1 : t < 16) (u0 : 0 ≤ u) (u1 : u < 16) (us : u ≠ s) (ut : u ≠ t) (hT : T u ≠ 0) (hbt : fs_bt m s t E L T C) (hcu : C u = -1) (hor : fs_or s t O (fs_u T u 0) C oc ol) (hq : fs_q f r Q D q)
    (H : ∀ C' O' oc' ol' r' Q' D' q', fs_bt m s t E L (fs_u T u 0) C' → fs_or s t O' (fs_u T u 0) C' oc' ol' → fs_q f r' Q' D' q' → (∀ y, y ∈ q → y ∈ q') → (∀ e, e ∈ ou u → T (E e) = T u → 1 ≤ L (fs_ae (T u) (fs_x e)) → E e ∈ q') →
      post (pr, fs_i s, fs_i t, ed, fw, fs_i f, fs_i r', fs_i oc', a1, a2, a3, fs_a E, fs_a L, fs_a F, fs_a N, a8, a9, fs_a C', a11, a12, fs_a Q', fs_a D', a15, a16, a17, fs_a (fs_u T u 0), fs_a O')) :
    wpX_setFree post (pr, fs_i s, fs_i t, ed, fw, fs_i f, fs_i r, fs_i oc, a1, a2, a3, fs_a E, fs_a L, fs_a F, fs_a N, a8, a9, fs_a C, a11, a12, fs_a Q, fs_a D, a15, a16, a17, fs_a T, fs_a O) (fs_i u) := by
  unfold wpX_setFree
  dsimp only
  exact ⟨fs_in u0 (by omega), nm_r (fs_rd u0 (by omega)) ⟨(ou u).length + 1, fs_sfr_7 hn hlp s0 s1 t0 t1 u0 u1 us ut hT H _ (ou u) (F u) C O oc ol r Q D q (fs_net_ch hn u0 u1) (fun x hx => hx) hbt hcu hor hq (fun y hy => hy) (fun e he hne => absurd he hne) (fun e he hne => absurd he hne) (by omega)⟩⟩
def fs_nt (T : Int → Int) : Int := fs_s (fun x => if T x = 0 then 0 else 1) 16
theorem fs_nt_b (T : Int → Int) : 0 ≤ fs_nt T ∧ fs_nt T ≤ 16 := by
  have a := fs_s_0 (f := fun x => if T x = 0 then 0 else 1) (k := 16) (fun j _ _ => by split <;> omega)
  have b := fs_s_k (f := fun x => if T x = 0 then 0 else 1) (c := 1) (k := 16) (fun j _ _ => by split <;> omega)
  unfold fs_nt
  omega
theorem fs_nt_u {T : Int → Int} {u z : Int} (u0 : 0 ≤ u) (u1 : u < 16) : fs_nt (fs_u T u z) = fs_nt T - (if T u = 0 then 0 else 1) + (if z = 0 then 0 else 1) := by
  unfold fs_nt
  rw [fs_s_u (f := fun x => if T x = 0 then 0 else 1) (x := u) (k := 16) u0 (by omega) (fun j _ _ g => by rw [fs_un g])]
  rw [fs_us]
theorem fs_ado_0 {f : Int} (hn : fs_net m E F N ou) (hlp : fs_lp m K L) (s0 : 0 ≤ s) (s1 : s < 16) (t0 : 0 ≤ t) (t1 : t < 16)
    (H : ∀ T C O r Q D q, fs_bt m s t E L T C → fs_or s t O T C 0 [] → fs_bo E L T ou q → fs_q f r Q D q →
      post (pr, fs_i s, fs_i t, ed, fw, fs_i f, fs_i r, fs_i 0, a1, a2, a3, fs_a E, fs_a L, fs_a F, fs_a N, a8, a9, fs_a C, a11, a12, fs_a Q, fs_a D, a15, a16, a17, fs_a T, fs_a O)) :
    ∀ (n : Nat) (T C O : Int → Int) (oc : Int) (ol : List Int) (r : Int) (Q D : Int → Int) (q : List Int), fs_bt m s t E L T C → fs_or s t O T C oc ol → fs_bo E L T ou q → fs_q f r Q D q → 17 * fs_nt T + oc < n →
      wX_adopt_0 post n pr (fs_i s) (fs_i t) ed fw (fs_i f) (fs_i r) (fs_i oc) a1 a2 a3 (fs_a E) (fs_a L) (fs_a F) (fs_a N) a8 a9 (fs_a C) a11 a12 (fs_a Q) (fs_a D) a15 a16 a17 (fs_a T) (fs_a O) := by
  intro n
  induction n with
  | zero =>
    intro T C O oc ol r Q D q _ hor _ _ h
    have a := fs_nt_b T
    have b := fs_or_len hor
    omega
  | succ n ih =>
    intro T C O oc ol r Q D q hbt hor hbo hq hl
    have olb := fs_or_len hor
    have ntb := fs_nt_b T
    unfold wX_adopt_0
    have hor0 := hor
    obtain ⟨o1, o2, o3, o4, o5⟩ := hor
    cases ol with
    | nil =>
      have e : oc = 0 := o1
      subst e
      exact fs_le 0 0 (fun _ => H T C O r Q D q hbt hor0 hbo hq) (fun g => absurd g (by omega))
    | cons u ol =>
      rw [List.length_cons] at o1
      have ub := o4 u List.mem_cons_self
      have nd := List.nodup_cons.mp o3
      have hO : O (oc - 1) = u := by
        have w := o2.1
        rw [show oc - 1 = (ol.length : Int) by omega]
        exact w
      refine fs_le oc 0 (fun g => absurd g (by omega)) (fun _ => nm_r (fs_m1 oc) ⟨fs_in (by omega) (by omega), nm_r (e' := fs_i u) (by rw [fs_rd (by omega) (by omega), hO]) ?_⟩)
      refine fs_fpa (K := K) hn hlp hbt s0 s1 t0 t1 ub.1 ub.2.1 ub.2.2.2.2.1 (br_t rfl ?_) (fun e l he hv hL hr => br_f (by decide) ?_)
      · refine fs_sfr (K := K) hn hlp s0 s1 t0 t1 ub.1 ub.2.1 ub.2.2.1 ub.2.2.2.1 ub.2.2.2.2.1 hbt ub.2.2.2.2.2 (ol := ol) ⟨by omega, o2.2, nd.2, fun x hx => ?_, fun x x0 x1 xs xt hx hc => ?_⟩ hq (fun C' O' oc' ol' r' Q' D' q' hbt' hor' hq' hqq hen => ?_)
        · have w := o4 x (List.mem_cons_of_mem _ hx)
          rw [fs_un (fun z => nd.1 (by rw [← z]; exact hx))]
          exact w
        · have c : x ≠ u := fun z => by
            rw [z, fs_us] at hx
            exact hx rfl
          rw [fs_un c] at hx
          rcases List.mem_cons.mp (o5 x x0 x1 xs xt hx hc) with w | w
          · exact absurd w c
          · exact w
        · have olb' := fs_or_len hor'
          have ntu := fs_nt_u (T := T) (z := 0) ub.1 ub.2.1
          rw [if_neg ub.2.2.2.2.1, if_pos rfl] at ntu
          exact ih (fs_u T u 0) C' O' oc' ol' r' Q' D' q' hbt' hor' (fs_bo_fr hn hbo ub.1 ub.2.1 hqq hen) hq' (by omega)
      · have eo := fs_net_ou hn ub.1 ub.2.1 he
        have ex := fs_net_x hn eo.1 eo.2.1
        have ea := fs_ae_b (a := T u) hn ex.1 ex.2
        refine ih T _ O (oc - 1) ol r Q D q (fs_bt_ad hn hbt ub.1 ub.2.1 ub.2.2.1 ub.2.2.2.1 ub.2.2.2.2.1 ub.2.2.2.2.2 he hv hL hr) ⟨by omega, o2.2, nd.2, fun x hx => ?_, fun x x0 x1 xs xt hx hc => ?_⟩ hbo hq (by omega)
        · have w := o4 x (List.mem_cons_of_mem _ hx)
          rw [fs_un (fun z => nd.1 (by rw [← z]; exact hx))]
          exact w
        · have c : x ≠ u := fun z => by
            rw [z, fs_us] at hc
            omega
          rw [fs_un c] at hc
          rcases List.mem_cons.mp (o5 x x0 x1 xs xt hx hc) with w | w
          · exact absurd w c
          · exact w
theorem fs_ado {f r oc : Int} {T C O Q D : Int → Int} {q ol : List Int} (hn : fs_net m E F N ou) (hlp : fs_lp m K L) (s0 : 0 ≤ s) (s1 : s < 16) (t0 : 0 ≤ t) (t1 : t < 16) (hbt : fs_bt m s t E L T C) (hor : fs_or s t O T C oc ol) (hbo : fs_bo E L T ou q) (hq : fs_q f r Q D q)
    (H : ∀ T C O r Q D q, fs_bt m s t E L T C → fs_or s t O T C 0 [] → fs_bo E L T ou q → fs_q f r Q D q →
      post (pr, fs_i s, fs_i t, ed, fw, fs_i f, fs_i r, fs_i 0, a1, a2, a3, fs_a E, fs_a L, fs_a F, fs_a N, a8, a9, fs_a C, a11, a12, fs_a Q, fs_a D, a15, a16, a17, fs_a T, fs_a O)) :
    wpX_adopt post (pr, fs_i s, fs_i t, ed, fw, fs_i f, fs_i r, fs_i oc, a1, a2, a3, fs_a E, fs_a L, fs_a F, fs_a N, a8, a9, fs_a C, a11, a12, fs_a Q, fs_a D, a15, a16, a17, fs_a T, fs_a O) := by
  unfold wpX_adopt
  dsimp only
  exact ⟨(17 * fs_nt T + oc).toNat + 1, fs_ado_0 hn hlp s0 s1 t0 t1 H _ T C O oc ol r Q D q hbt hor hbo hq (by omega)⟩
end
end
section
/-! part 17: engine 6: fillBranch, fillBridge -/
def fs_sx (a d : Int) : Int := if a = 1 then d else -d
theorem fs_sx1 (d : Int) : fs_sx 1 d = d := if_pos rfl
theorem fs_sx2 (d : Int) : fs_sx 2 d = -d := if_neg (by decide)
section
variable {m s t : Int} {E F N K T : Int → Int} {ou : Int → List Int} {post : St2 → Prop} {pr so sk ed fw qf qs oc : Int32} {a1 a2 a3 a4 a5 a6 a7 a8 a9 a10 a11 a12 a13 a14 a15 a16 a17 a18 a19 : Nat → Int32}
/-- what is known while a branch is filled -/
def fs_fi (m s t : Int) (E K T : Int → Int) (ou : Int → List Int) (a A : Int) (Z L0 C0 : Int → Int) (P : Int → Prop) (x : Int) (L C O : Int → Int) (oc : Int) (ol : List Int) : Prop :=
  fs_lp m K L ∧ fs_bt m s t E L T C ∧ fs_or s t O T C oc ol ∧ (∀ u, 0 ≤ u → u < 16 → fs_m L (ou u) = Z u - fs_sx a (if u = x then A else 0)) ∧
  (∀ y, 0 ≤ y → y < 16 → T y ≠ a → C y = C0 y ∧ (0 ≤ C0 y → L (C0 y) = L0 (C0 y))) ∧ (∀ f, 0 ≤ f → f < m → 1 ≤ L f → P f ∨ T (E f) = T (E (fs_x f)))
theorem fs_fb_3 {a o A : Int} {Z L0 C0 : Int → Int} {P : Int → Prop} (hn : fs_net m E F N ou) (ha : a = 1 ∨ a = 2) (ho : o = s ∨ o = t) (o0 : 0 ≤ o) (o1 : o < 16) (hA : 1 ≤ A) (hA1 : A ≤ 99)
    (H : ∀ L C O oc ol, fs_fi m s t E K T ou a A Z L0 C0 P o L C O oc ol → post (pr, fs_i s, fs_i t, ed, fw, qf, qs, fs_i oc, a1, a2, a3, fs_a E, fs_a L, fs_a F, fs_a N, a8, a9, fs_a C, a11, a12, a13, a14, a15, a16, a17, fs_a T, fs_a O)) :
    ∀ (n : Nat) (l : List Int) (x : Int) (L C O : Int → Int) (oc : Int) (ol : List Int), 0 ≤ x → x < 16 → T x = a → fs_rr E C T o l x → (∀ y, y ∈ l → A ≤ L (C y)) → fs_fi m s t E K T ou a A Z L0 C0 P x L C O oc ol → l.length < n →
      wX_fillBranch_3 post (fs_i o) (fs_i A) n (fs_i x) pr (fs_i s) (fs_i t) ed fw qf qs (fs_i oc) a1 a2 a3 (fs_a E) (fs_a L) (fs_a F) (fs_a N) a8 a9 (fs_a C) a11 a12 a13 a14 a15 a16 a17 (fs_a T) (fs_a O) := by
  intro n
  induction n with
  | zero => intro l x L C O oc ol _ _ _ _ _ _ h; omega
  | succ n ih =>
    intro l x L C O oc ol x0 x1 hTx hr hLA hfi hl
    unfold wX_fillBranch_3
    cases l with
    | nil =>
      have e : x = o := hr
      subst e
      exact fs_eq x x (fun _ => H L C O oc ol hfi) (fun g => absurd rfl g)
    | cons z l =>
      have e : z = x := hr.1
      subst e
      rw [List.length_cons] at hl
      have hm := fs_net_m hn
      obtain ⟨i1, i2, i3, i4, i5, i6⟩ := hfi
      have c0 : 0 ≤ C z := hr.2.2.1
      have v := fs_bt_v hn i2 x0 x1 c0
      have ve := fs_bt_e hn i2 x0 x1 c0
      have cx := fs_net_x hn c0 v.2.1
      have lb := fs_lp_b hn i1 c0 v.2.1
      have hAl := hLA z List.mem_cons_self
      have nd := List.nodup_cons.mp (fs_rr_nd hr)
      have olb := fs_or_len i3
      have hCo : C o = -1 := by
        rcases ho with w | w
        · rw [w]
          exact i2.2.2.2.1
        · rw [w]
          exact i2.2.2.2.2.1
      have keep : ∀ y, 0 ≤ y → y < 16 → y ≠ z → 0 ≤ C y → fs_mv L (C z) A (C y) = L (C y) := fun y y0 y1 yz hy => by
        have w := fs_rr_cy hn i2 hCo x0 x1 hr y0 y1 hy yz
        exact fs_mv_o w.1 w.2
      have tl := hr.2.2.2
      have inl := fs_rr_in hn i2 v.2.2.2.2.2.1 v.2.2.2.2.2.2.1 tl
      have sums : ∀ u, 0 ≤ u → u < 16 → fs_m (fs_mv L (C z) A) (ou u) = Z u - fs_sx a (if u = fs_pa E C T z then A else 0) := by
        intro u u0 u1
        rw [fs_mv_m hn c0 v.2.1 u0 u1, i4 u u0 u1]
        have e1 := v.2.2.2.1
        have e2 : E (fs_x (fs_ae (T z) (C z))) = fs_pa E C T z := rfl
        have hpz := v.2.2.2.2.2.2.2.2.2
        rw [hTx] at e1 e2
        rcases ha with w | w
        · subst w
          rw [fs_ae1] at e1 e2
          rw [e1, e2, fs_sx1, fs_sx1]
          omega
        · subst w
          rw [fs_aen (by decide)] at e1 e2
          rw [fs_xx] at e2
          rw [e1, e2, fs_sx2, fs_sx2]
          omega
      have frame : ∀ y, 0 ≤ y → y < 16 → T y ≠ a → C y = C0 y ∧ (0 ≤ C0 y → fs_mv L (C z) A (C0 y) = L0 (C0 y)) := fun y y0 y1 hy => by
        have w := i5 y y0 y1 hy
        refine ⟨w.1, fun g => ?_⟩
        have g' : 0 ≤ C y := by
          rw [w.1]
          exact g
        have k := keep y y0 y1 (fun q => hy (by rw [q]; exact hTx)) g'
        rw [w.1] at k
        rw [k]
        exact w.2 g
      have fpr : ∀ f, 0 ≤ f → f < m → 1 ≤ fs_mv L (C z) A f → P f ∨ T (E f) = T (E (fs_x f)) := fun f f0 f1 hf => by
        by_cases c : f = C z
        · rw [c]
          exact Or.inr (by rw [ve.1, ve.2])
        · by_cases c2 : f = fs_x (C z)
          · rw [c2, fs_xx]
            exact Or.inr (by rw [ve.1, ve.2])
          · rw [fs_mv_o c c2] at hf
            exact i6 f f0 f1 hf
      have lp' := fs_mv_lp hn i1 c0 v.2.1 (x := A) (by omega) hAl
      refine fs_eq z o (fun g => absurd g hr.2.1) (fun _ => ?_)
      refine fs_par x0 x1 c0 (by omega) (i2.1 z x0 x1) ⟨fs_in x0 (by omega), ?_⟩
      refine fs_move (e := C z) (x := A) c0 (by omega) ?_ (fs_rd x0 (by omega)) rfl
      refine ⟨fs_in x0 (by omega), ?_⟩
      rw [fs_rd (L := C) x0 (by omega)]
      refine ⟨fs_in c0 (by omega), ?_⟩
      rw [fs_rd (L := fs_mv L (C z) A) c0 (by omega), fs_mv_e]
      refine fs_eq (L (C z) - A) 0 (fun g => ?_) (fun g => ?_)
      · refine fs_mko x0 x1 olb.1 (by omega) ?_
        have hC' : ∀ y, y ∈ l → fs_u C z (-1) y = C y := fun y hy => fs_un (fun q => nd.1 (by rw [← q]; exact hy))
        refine ih l _ _ _ _ (oc + 1) (z :: ol) v.2.2.2.2.2.1 v.2.2.2.2.2.2.1 (by rw [v.2.2.2.2.1]; exact hTx) (fs_rr_c hC' tl) (fun y hy => ?_) ⟨lp', fs_bt_cut i2 (fun y y0 y1 yz hy => ?_), fs_or_push i3 x0 x1 v.2.2.2.2.2.2.2.1 v.2.2.2.2.2.2.2.2.1 v.1 c0, sums, fun y y0 y1 hy => ?_, fpr⟩ (by omega)
        · have w := inl y hy
          rw [hC' y hy, keep y w.1 w.2.1 (fun q => nd.1 (by rw [← q]; exact hy)) w.2.2.1]
          exact hLA y (List.mem_cons_of_mem _ hy)
        · rw [keep y y0 y1 yz hy]
          exact (fs_bt_v hn i2 y0 y1 hy).2.2.1
        · rw [fs_un (fun q => hy (by rw [q]; exact hTx))]
          exact frame y y0 y1 hy
      · refine ih l _ _ _ _ oc ol v.2.2.2.2.2.1 v.2.2.2.2.2.2.1 (by rw [v.2.2.2.2.1]; exact hTx) tl (fun y hy => ?_) ⟨lp', fs_bt_L i2 (fun y y0 y1 hy => ?_), i3, sums, frame, fpr⟩ (by omega)
        · have w := inl y hy
          rw [keep y w.1 w.2.1 (fun q => nd.1 (by rw [← q]; exact hy)) w.2.2.1]
          exact hLA y (List.mem_cons_of_mem _ hy)
        · by_cases c : y = z
          · rw [c, fs_mv_e]
            omega
          · rw [keep y y0 y1 c hy]
            exact (fs_bt_v hn i2 y0 y1 hy).2.2.1
theorem fs_fb {a o A x oc : Int} {Z L0 C0 L C O : Int → Int} {ol l : List Int} {P : Int → Prop} {p1 : Int32} (hn : fs_net m E F N ou) (ha : a = 1 ∨ a = 2) (ho : o = s ∨ o = t) (o0 : 0 ≤ o) (o1 : o < 16) (hA : 1 ≤ A) (hA1 : A ≤ 99) (x0 : 0 ≤ x) (x1 : x < 16) (hTx : T x = a) (hr : fs_rr E C T o l x) (hLA : ∀ y, y ∈ l → A ≤ L (C y)) (hfi : fs_fi m s t E K T ou a A Z L0 C0 P x L C O oc ol)
    (H : ∀ L C O oc ol, fs_fi m s t E K T ou a A Z L0 C0 P o L C O oc ol → post (pr, fs_i s, fs_i t, ed, fw, qf, qs, fs_i oc, a1, a2, a3, fs_a E, fs_a L, fs_a F, fs_a N, a8, a9, fs_a C, a11, a12, a13, a14, a15, a16, a17, fs_a T, fs_a O)) (hp : p1 = fs_i o := by rfl) :
    wpX_fillBranch post (pr, fs_i s, fs_i t, ed, fw, qf, qs, fs_i oc, a1, a2, a3, fs_a E, fs_a L, fs_a F, fs_a N, a8, a9, fs_a C, a11, a12, a13, a14, a15, a16, a17, fs_a T, fs_a O) (fs_i x) p1 (fs_i A) := by
  subst hp
  unfold wpX_fillBranch
  dsimp only
  exact ⟨l.length + 1, fs_fb_3 hn ha ho o0 o1 hA hA1 H _ l x L C O oc ol x0 x1 hTx hr hLA hfi (by omega)⟩
end
section
variable {m s t : Int} {E F N K Cn T L C O : Int → Int} {ou : Int → List Int} {post : St2 → Prop} {pr so sk ed fw qf qs oc : Int32} {a1 a2 a3 a4 a5 a6 a7 a8 a9 a10 a11 a12 a13 a14 a15 a16 a17 a18 a19 : Nat → Int32}
theorem fs_br_84 {p1 p3 p4 : Int32} (hn : fs_net m E F N ou) (hlp : fs_lp m K L) (hbt : fs_bt m s t E L T C) (t0 : 0 ≤ t) (t1 : t < 16) :
    ∀ (n : Nat) (l : List Int) (x A : Int), 0 ≤ x → x < 16 → fs_rr E C T t l x → 1 ≤ A → A ≤ 99 → l.length < n →
      (∀ A', 1 ≤ A' → A' ≤ A → (∀ y, y ∈ l → A' ≤ L (C y)) → wX_fillBridge_84 post p1 p3 p4 pr (fs_i s) (fs_i t) ed fw qf qs oc a1 a2 a3 (fs_a E) (fs_a L) (fs_a F) (fs_a N) a8 a9 (fs_a C) a11 a12 a13 a14 a15 a16 a17 (fs_a T) a19 1 (fs_i A') (fs_i t)) →
      wX_fillBridge_84 post p1 p3 p4 pr (fs_i s) (fs_i t) ed fw qf qs oc a1 a2 a3 (fs_a E) (fs_a L) (fs_a F) (fs_a N) a8 a9 (fs_a C) a11 a12 a13 a14 a15 a16 a17 (fs_a T) a19 n (fs_i A) (fs_i x) := by
  intro n
  induction n with
  | zero => intro l x A _ _ _ _ _ h; omega
  | succ n ih =>
    intro l x A x0 x1 hr hA hA1 hl H
    cases l with
    | nil =>
      have e : x = t := hr
      subst e
      have w := H A hA (Int.le_refl _) (fun y hy => by cases hy)
      unfold wX_fillBridge_84 at w ⊢
      exact br_t rfl (w.1 rfl)
    | cons z l =>
      have e : z = x := hr.1
      subst e
      rw [List.length_cons] at hl
      have hm := fs_net_m hn
      have c0 : 0 ≤ C z := hr.2.2.1
      have v := fs_bt_v hn hbt x0 x1 c0
      have lb := fs_lp_b hn hlp c0 v.2.1
      have go : ∀ A', 1 ≤ A' → A' ≤ A → A' ≤ L (C z) → wX_fillBridge_125 post (wX_fillBridge_84 post p1 p3 p4 pr (fs_i s) (fs_i t) ed fw qf qs oc a1 a2 a3 (fs_a E) (fs_a L) (fs_a F) (fs_a N) a8 a9 (fs_a C) a11 a12 a13 a14 a15 a16 a17 (fs_a T) a19 n) p1 p3 p4 (fs_i z) (fs_i A') pr (fs_i s) (fs_i t) ed fw qf qs oc a1 a2 a3 (fs_a E) (fs_a L) (fs_a F) (fs_a N) a8 a9 (fs_a C) a11 a12 a13 a14 a15 a16 a17 (fs_a T) a19 := by
        intro A' h1 h2 h3
        unfold wX_fillBridge_125
        refine fs_par x0 x1 c0 (by omega) (hbt.1 z x0 x1) (ih l _ A' v.2.2.2.2.2.1 v.2.2.2.2.2.2.1 hr.2.2.2 h1 (by omega) (by omega) (fun A2 g1 g2 g3 => H A2 g1 (by omega) (fun y hy => ?_)))
        rcases List.mem_cons.mp hy with w | w
        · rw [w]
          omega
        · exact g3 y w
      unfold wX_fillBridge_84
      refine fs_eq z t (fun g => absurd g hr.2.1) (fun _ => ⟨fs_in x0 (by omega), ?_⟩)
      rw [fs_rd (L := C) x0 (by omega)]
      refine ⟨fs_in c0 (by omega), ?_⟩
      rw [fs_rd (L := L) c0 (by omega)]
      exact fs_le A (L (C z)) (fun g => go A hA (Int.le_refl _) g) (fun g => ⟨fs_in x0 (by omega), fs_in c0 (by omega), go (L (C z)) v.2.2.1 (by omega) (Int.le_refl _)⟩)
theorem fs_br_27 {p1 p3 p4 : Int32} (hn : fs_net m E F N ou) (hlp : fs_lp m K L) (hbt : fs_bt m s t E L T C) (s0 : 0 ≤ s) (s1 : s < 16) :
    ∀ (n : Nat) (l : List Int) (x A : Int), 0 ≤ x → x < 16 → fs_rr E C T s l x → 1 ≤ A → A ≤ 99 → l.length < n →
      (∀ A', 1 ≤ A' → A' ≤ A → (∀ y, y ∈ l → A' ≤ L (C y)) → ∃ fu, wX_fillBridge_84 post p1 p3 p4 pr (fs_i s) (fs_i t) ed fw qf qs oc a1 a2 a3 (fs_a E) (fs_a L) (fs_a F) (fs_a N) a8 a9 (fs_a C) a11 a12 a13 a14 a15 a16 a17 (fs_a T) a19 fu (fs_i A') p4) →
      wX_fillBridge_27 post p1 p3 p4 pr (fs_i s) (fs_i t) ed fw qf qs oc a1 a2 a3 (fs_a E) (fs_a L) (fs_a F) (fs_a N) a8 a9 (fs_a C) a11 a12 a13 a14 a15 a16 a17 (fs_a T) a19 n (fs_i A) (fs_i x) := by
  intro n
  induction n with
  | zero => intro l x A _ _ _ _ _ h; omega
  | succ n ih =>
    intro l x A x0 x1 hr hA hA1 hl H
    unfold wX_fillBridge_27
    cases l with
    | nil =>
      have e : x = s := hr
      subst e
      exact br_t rfl (H A hA (Int.le_refl _) (fun y hy => by cases hy))
    | cons z l =>
      have e : z = x := hr.1
      subst e
      rw [List.length_cons] at hl
      have hm := fs_net_m hn
      have c0 : 0 ≤ C z := hr.2.2.1
      have v := fs_bt_v hn hbt x0 x1 c0
      have lb := fs_lp_b hn hlp c0 v.2.1
      have go : ∀ A', 1 ≤ A' → A' ≤ A → A' ≤ L (C z) → wX_fillBridge_68 post (wX_fillBridge_27 post p1 p3 p4 pr (fs_i s) (fs_i t) ed fw qf qs oc a1 a2 a3 (fs_a E) (fs_a L) (fs_a F) (fs_a N) a8 a9 (fs_a C) a11 a12 a13 a14 a15 a16 a17 (fs_a T) a19 n) p1 p3 p4 (fs_i z) (fs_i A') pr (fs_i s) (fs_i t) ed fw qf qs oc a1 a2 a3 (fs_a E) (fs_a L) (fs_a F) (fs_a N) a8 a9 (fs_a C) a11 a12 a13 a14 a15 a16 a17 (fs_a T) a19 := by
        intro A' h1 h2 h3
        unfold wX_fillBridge_68
        refine fs_par x0 x1 c0 (by omega) (hbt.1 z x0 x1) (ih l _ A' v.2.2.2.2.2.1 v.2.2.2.2.2.2.1 hr.2.2.2 h1 (by omega) (by omega) (fun A2 g1 g2 g3 => H A2 g1 (by omega) (fun y hy => ?_)))
        rcases List.mem_cons.mp hy with w | w
        · rw [w]
          omega
        · exact g3 y w
      refine fs_eq z s (fun g => absurd g hr.2.1) (fun _ => ⟨fs_in x0 (by omega), ?_⟩)
      rw [fs_rd (L := C) x0 (by omega)]
      refine ⟨fs_in c0 (by omega), ?_⟩
      rw [fs_rd (L := L) c0 (by omega)]
      exact fs_le A (L (C z)) (fun g => go A hA (Int.le_refl _) g) (fun g => ⟨fs_in x0 (by omega), fs_in c0 (by omega), go (L (C z)) v.2.2.1 (by omega) (Int.le_refl _)⟩)
theorem fs_br {br fl : Int} (hn : fs_net m E F N ou) (hv : fs_vf m s t K L ou Cn fl) (hbt : fs_bt m s t E L T C) (hor : fs_or s t O T C 0 []) (s0 : 0 ≤ s) (s1 : s < 16) (t0 : 0 ≤ t) (t1 : t < 16) (st : s ≠ t) (b0 : 0 ≤ br) (b1 : br < m) (hL : 1 ≤ L br) (hTa : T (E (fs_x br)) = 1) (hTb : T (E br) = 2)
    (H : ∀ L' C' O' oc' ol' A, 1 ≤ A → fs_vf m s t K L' ou Cn (fl + A) → fs_bt m s t E L' T C' → fs_or s t O' T C' oc' ol' → (∀ f, 0 ≤ f → f < m → 1 ≤ L' f → (1 ≤ L f ∨ f = fs_x br) ∨ T (E f) = T (E (fs_x f))) →
      post (pr, fs_i s, fs_i t, ed, fs_i (fl + A), qf, qs, fs_i oc', a1, a2, a3, fs_a E, fs_a L', fs_a F, fs_a N, a8, a9, fs_a C', a11, a12, a13, a14, a15, a16, a17, fs_a T, fs_a O')) :
    wpX_fillBridge post (pr, fs_i s, fs_i t, ed, fs_i fl, qf, qs, fs_i 0, a1, a2, a3, fs_a E, fs_a L, fs_a F, fs_a N, a8, a9, fs_a C, a11, a12, a13, a14, a15, a16, a17, fs_a T, fs_a O) (fs_i br) := by
  have hm := fs_net_m hn
  have bx := fs_net_x hn b0 b1
  have bt := fs_net_to hn b0 b1
  have bf := fs_net_fr hn b0 b1
  have lb := fs_lp_b hn hv.1 b0 b1
  have noor : ∀ x, 0 ≤ x → x < 16 → x ≠ s → x ≠ t → T x ≠ 0 → C x ≠ -1 := fun x x0 x1 xs xt hx hc => by
    have w := hor.2.2.2.2 x x0 x1 xs xt hx hc
    cases w
  obtain ⟨la, hla⟩ := hbt.2.2.2.2.2.2 _ bf.1 bf.2.1 (by rw [hTa]; decide)
  obtain ⟨lc, hlc⟩ := hbt.2.2.2.2.2.2 _ bt.1 bt.2.1 (by rw [hTb]; decide)
  have ra := fs_tm_rr hn hbt noor bf.1 bf.2.1 (by rw [hTa]; decide) hla
  have rc := fs_tm_rr hn hbt noor bt.1 bt.2.1 (by rw [hTb]; decide) hlc
  rw [hTa, if_pos rfl] at ra
  rw [hTb, if_neg (by decide)] at rc
  unfold wpX_fillBridge
  dsimp only
  rw [fs_xor b0 (by omega)]
  refine ⟨fs_in b0 (by omega), nm_r (fs_rd b0 (by omega)) ⟨fs_in bx.1 (by omega), nm_r (fs_rd bx.1 (by omega)) ⟨fs_in b0 (by omega), nm_r (fs_rd b0 (by omega)) ⟨la.length + 1, ?_⟩⟩⟩⟩
  refine fs_br_27 hn hv.1 hbt s0 s1 _ la _ (L br) bf.1 bf.2.1 ra hL lb.2 (by omega) (fun A1 h1 h2 h3 => ⟨lc.length + 1, ?_⟩)
  refine fs_br_84 hn hv.1 hbt t0 t1 _ lc _ A1 bt.1 bt.2.1 rc h1 (by omega) (by omega) (fun A g1 g2 g3 => ?_)
  unfold wX_fillBridge_84
  refine br_t rfl (fs_move (e := br) (x := A) b0 (by omega) ?_)
  dsimp only
  have ks : ∀ y, 0 ≤ y → y < 16 → 0 ≤ C y → fs_mv L br A (C y) = L (C y) := fun y y0 y1 hy => by
    have ve := fs_bt_e hn hbt y0 y1 hy
    refine fs_mv_o (fun z => ?_) (fun z => ?_)
    · rw [z, hTb, hTa] at ve
      omega
    · rw [z, fs_xx, hTb, hTa] at ve
      omega
  have bt1 : fs_bt m s t E (fs_mv L br A) T C := fs_bt_L hbt (fun y y0 y1 hy => by
    rw [ks y y0 y1 hy]
    exact (fs_bt_v hn hbt y0 y1 hy).2.2.1)
  have lp1 := fs_mv_lp hn hv.1 b0 b1 (x := A) (by omega) (by omega)
  have fp1 : ∀ f, 0 ≤ f → f < m → 1 ≤ fs_mv L br A f → (1 ≤ L f ∨ f = fs_x br) ∨ T (E f) = T (E (fs_x f)) := fun f f0 f1 hf => by
    by_cases c : f = fs_x br
    · exact Or.inl (Or.inr c)
    · by_cases c2 : f = br
      · rw [c2]
        exact Or.inl (Or.inl hL)
      · rw [fs_mv_o c2 c] at hf
        exact Or.inl (Or.inl hf)
  have ina := fs_rr_in hn hbt bf.1 bf.2.1 ra
  have inc := fs_rr_in hn hbt bt.1 bt.2.1 rc
  refine fs_fb (a := 1) (o := s) (A := A) (K := K) (l := la) (Z := fun u => fs_m L (ou u) + (if u = E br then A else 0)) (L0 := fs_mv L br A) (C0 := C) (P := fun f => 1 ≤ L f ∨ f = fs_x br) hn (Or.inl rfl) (Or.inl rfl) s0 s1 g1 (by omega) bf.1 bf.2.1 hTa ra (fun y hy => ?_) ⟨lp1, bt1, hor, fun u u0 u1 => ?_, fun y _ _ _ => ⟨rfl, fun _ => rfl⟩, fp1⟩ (fun L2 C2 O2 oc2 ol2 hf2 => ?_)
  · have w := ina y hy
    rw [ks y w.1 w.2.1 w.2.2.1]
    have w2 := h3 y hy
    omega
  · rw [fs_mv_m hn b0 b1 u0 u1, fs_sx1]
    dsimp only
    omega
  obtain ⟨j1, j2, j3, j4, j5, j6⟩ := hf2
  have Cc : ∀ y, y ∈ lc → C2 y = C y := fun y hy => by
    have w := inc y hy
    exact (j5 y w.1 w.2.1 (by rw [w.2.2.2, hTb]; decide)).1
  refine fs_fb (a := 2) (o := t) (A := A) (K := K) (l := lc) (Z := fun u => fs_m L (ou u) - (if u = s then A else 0)) (L0 := L2) (C0 := C2) (P := fun f => 1 ≤ L f ∨ f = fs_x br) hn (Or.inr rfl) (Or.inr rfl) t0 t1 g1 (by omega) bt.1 bt.2.1 hTb (fs_rr_c Cc rc) (fun y hy => ?_) ⟨j1, j2, j3, fun u u0 u1 => ?_, fun y _ _ _ => ⟨rfl, fun _ => rfl⟩, j6⟩ (fun L3 C3 O3 oc3 ol3 hf3 => nm_r (fs_add fl A) ?_)
  · have w := inc y hy
    have w2 := (j5 y w.1 w.2.1 (by rw [w.2.2.2, hTb]; decide)).2 w.2.2.1
    rw [Cc y hy, w2, ks y w.1 w.2.1 w.2.2.1]
    exact g3 y hy
  · have w := j4 u u0 u1
    rw [fs_sx1] at w
    rw [fs_sx2, w]
    dsimp only
    omega
  obtain ⟨k1, k2, k3, k4, k5, k6⟩ := hf3
  refine H L3 C3 O3 oc3 ol3 A g1 ⟨k1, fun u u0 u1 ut => ?_⟩ k2 k3 k6
  rw [k4 u u0 u1, fs_sx2, if_neg ut]
  dsimp only
  rw [hv.2 u u0 u1 ut]
  split <;> omega
end
end
section
/-! part 18: engine 6: grow, solveByTwoTrees -/
section
variable {m s t : Int} {E F N K L : Int → Int} {ou : Int → List Int}
theorem fs_bt_gr {T C : Int → Int} {u e : Int} (hn : fs_net m E F N ou) (h : fs_bt m s t E L T C) (u0 : 0 ≤ u) (u1 : u < 16) (he : e ∈ ou u) (hu : T u ≠ 0) (hv : T (E e) = 0) (hL : 1 ≤ L (fs_ae (T u) e)) :
    fs_bt m s t E L (fs_u T (E e) (T u)) (fs_u C (E e) (fs_ae (T u) e)) := by
  have eo := fs_net_ou hn u0 u1 he
  have et := fs_net_to hn eo.1 eo.2.1
  have ea := fs_ae_b (a := T u) hn eo.1 eo.2.1
  have h0 := h
  obtain ⟨h1, h2, h3, h4, h5, h6, h7⟩ := h
  have uv : u ≠ E e := fun z => hu (by rw [z]; exact hv)
  have sv : s ≠ E e := fun z => by
    rw [← z, h2] at hv
    exact absurd hv (by decide)
  have tv : t ≠ E e := fun z => by
    rw [← z, h3] at hv
    exact absurd hv (by decide)
  have pv : fs_pa E (fs_u C (E e) (fs_ae (T u) e)) (fs_u T (E e) (T u)) (E e) = u := by
    unfold fs_pa
    rw [fs_us, fs_us, fs_aea]
    exact eo.2.2
  have po : ∀ y, y ≠ E e → fs_pa E (fs_u C (E e) (fs_ae (T u) e)) (fs_u T (E e) (T u)) y = fs_pa E C T y := fun y hy => by
    unfold fs_pa
    rw [fs_un hy, fs_un hy]
  have key : ∀ (l : List Int) (x : Int), 0 ≤ x → x < 16 → T x ≠ 0 → fs_tm E C T l x → fs_tm E (fs_u C (E e) (fs_ae (T u) e)) (fs_u T (E e) (T u)) l x := by
    intro l
    induction l with
    | nil =>
      intro x _ _ hx hl
      show fs_u C (E e) (fs_ae (T u) e) x < 0
      rw [fs_un (fun z => hx (by rw [z]; exact hv))]
      exact hl
    | cons y l ih =>
      intro x x0 x1 hx hl
      have c : x ≠ E e := fun z => hx (by rw [z]; exact hv)
      have a := fs_bt_v hn h0 x0 x1 hl.2.1
      refine ⟨hl.1, by rw [fs_un c]; exact hl.2.1, ?_⟩
      rw [po x c]
      exact ih _ a.2.2.2.2.2.1 a.2.2.2.2.2.2.1 (by rw [a.2.2.2.2.1]; exact hx) hl.2.2
  refine ⟨fun x x0 x1 => ?_, by rw [fs_un sv]; exact h2, by rw [fs_un tv]; exact h3, by rw [fs_un sv]; exact h4, by rw [fs_un tv]; exact h5, fun x x0 x1 => ?_, fun x x0 x1 hx => ?_⟩
  · by_cases c : x = E e
    · rw [c, fs_us]
      exact h1 u u0 u1
    · rw [fs_un c]
      exact h1 x x0 x1
  · by_cases c : x = E e
    · rw [c, pv, fs_us, fs_us, fs_aea, fs_un uv]
      exact Or.inr ⟨hu, ea.1, ea.2, hL, rfl, rfl⟩
    · rw [po x c, fs_un c, fs_un c]
      rcases h6 x x0 x1 with w | w
      · exact Or.inl w
      · have pn : fs_pa E C T x ≠ E e := fun z => w.1 (by rw [← w.2.2.2.2.2, z]; exact hv)
        rw [fs_un pn]
        exact Or.inr w
  · by_cases c : x = E e
    · obtain ⟨l, hl⟩ := h7 u u0 u1 hu
      refine ⟨x :: l, rfl, ?_, ?_⟩
      · rw [c, fs_us]
        exact ea.1
      · rw [c, pv]
        exact key l u u0 u1 hu hl
    · rw [fs_un c] at hx
      obtain ⟨l, hl⟩ := h7 x x0 x1 hx
      exact ⟨l, key l x x0 x1 hx hl⟩
end
section
variable {m s t : Int} {E F N K L O : Int → Int} {ou : Int → List Int} {post : Int32 → St2 → Prop} {pr so sk ed fw qf qs oc : Int32} {a1 a2 a3 a4 a5 a6 a7 a8 a9 a10 a11 a12 a13 a14 a15 a16 a17 a18 a19 : Nat → Int32}
theorem fs_iso {post : Int32 → Prop} {T : Int → Int} {u e : Int} (hn : fs_net m E F N ou) (hlp : fs_lp m K L) (u0 : 0 ≤ u) (u1 : u < 16) (hT : T u = 0 ∨ T u = 1 ∨ T u = 2) (e0 : 0 ≤ e) (e1 : e < m) (H1 : 1 ≤ L (fs_ae (T u) e) → post 1) (H0 : ¬ 1 ≤ L (fs_ae (T u) e) → post 0) : wpX_isOpen post (pr, so, sk, ed, fw, qf, qs, oc, a1, a2, a3, a4, fs_a L, a6, a7, a8, a9, a10, a11, a12, a13, a14, a15, a16, a17, fs_a T, a19) (fs_i u) (fs_i e) := by
  have hm := fs_net_m hn
  have ex := fs_net_x hn e0 e1
  have lb := fs_lp_b hn hlp e0 e1
  have lbx := fs_lp_b hn hlp ex.1 ex.2
  unfold wpX_isOpen
  dsimp only
  rw [fs_xor e0 (by omega), fs_rd (L := T) u0 (by omega), fs_rd (L := L) e0 (by omega), fs_rd (L := L) ex.1 (by omega)]
  refine ⟨fs_in u0 (by omega), fs_eq (T u) 1 (fun g => ⟨fs_in e0 (by omega), ?_⟩) (fun g => ⟨fs_in ex.1 (by omega), ?_⟩)⟩
  · rw [g, fs_ae1] at H1 H0
    exact fs_le (L e) 0 (fun g2 => H0 (by omega)) (fun g2 => H1 (by omega))
  · rw [fs_aen g] at H1 H0
    exact fs_le (L (fs_x e)) 0 (fun g2 => H0 (by omega)) (fun g2 => H1 (by omega))
/-- what grow keeps -/
def fs_gi (m s t : Int) (E L O : Int → Int) (ou : Int → List Int) (f u a B : Int) (T C : Int → Int) (r : Int) (Q D : Int → Int) (q : List Int) : Prop :=
  fs_bt m s t E L T C ∧ fs_or s t O T C 0 [] ∧ fs_bo E L T ou (u :: q) ∧ fs_q f r Q D (u :: q) ∧ T u = a ∧ 2 * (16 - fs_nt T) + r ≤ B
theorem fs_gr_7 {f u a B : Int} (hn : fs_net m E F N ou) (hlp : fs_lp m K L) (u0 : 0 ≤ u) (u1 : u < 16) (ha : a ≠ 0)
    (H0 : ∀ T C r Q D q, fs_gi m s t E L O ou f u a B T C r Q D q → (∀ e, e ∈ ou u → 1 ≤ L (fs_ae a e) → T (E e) = a) → post (-1) (pr, fs_i s, fs_i t, ed, fw, fs_i f, fs_i r, oc, a1, a2, a3, fs_a E, fs_a L, fs_a F, fs_a N, a8, a9, fs_a C, a11, a12, fs_a Q, fs_a D, a15, a16, a17, fs_a T, a19))
    (H1 : ∀ T C r Q D q b, fs_gi m s t E L O ou f u a B T C r Q D q → 0 ≤ b → b < m → 1 ≤ L b → T (E (fs_x b)) = 1 → T (E b) = 2 → post (fs_i b) (pr, fs_i s, fs_i t, ed, fw, fs_i f, fs_i r, oc, a1, a2, a3, fs_a E, fs_a L, fs_a F, fs_a N, a8, a9, fs_a C, a11, a12, fs_a Q, fs_a D, a15, a16, a17, fs_a T, a19)) :
    ∀ (n : Nat) (l : List Int) (e : Int) (T C : Int → Int) (r : Int) (Q D : Int → Int) (q : List Int), fs_ch N l e → (∀ x, x ∈ l → x ∈ ou u) → fs_gi m s t E L O ou f u a B T C r Q D q → (∀ e, e ∈ ou u → e ∉ l → 1 ≤ L (fs_ae a e) → T (E e) = a) → l.length < n →
      wX_grow_7 post (fs_i u) n (fs_i e) pr (fs_i s) (fs_i t) ed fw (fs_i f) (fs_i r) oc a1 a2 a3 (fs_a E) (fs_a L) (fs_a F) (fs_a N) a8 a9 (fs_a C) a11 a12 (fs_a Q) (fs_a D) a15 a16 a17 (fs_a T) a19 := by
  intro n
  induction n with
  | zero => intro l e T C r Q D q _ _ _ _ h; omega
  | succ n ih =>
    intro l e T C r Q D q hc hs hgi hpr hl
    unfold wX_grow_7
    cases l with
    | nil =>
      have he : e = -1 := hc
      subst he
      exact fs_lt (-1) 0 (fun _ => H0 T C r Q D q hgi (fun e he => hpr e he (fun z => by cases z))) (fun g => absurd g (by omega))
    | cons x l =>
      have he : e = x := hc.1
      subst he
      rw [List.length_cons] at hl
      have hm := fs_net_m hn
      have hmem := hs e List.mem_cons_self
      have eo := fs_net_ou hn u0 u1 hmem
      have et := fs_net_to hn eo.1 eo.2.1
      have ex := fs_net_x hn eo.1 eo.2.1
      have ea := fs_ae_b (a := a) hn eo.1 eo.2.1
      have hgi0 := hgi
      obtain ⟨i1, i2, i3, i4, i5, i6⟩ := hgi
      have tu := i1.1 u u0 u1
      have te := i1.1 (E e) et.1 et.2.1
      have split1 : ∀ y, y ∈ ou u → y ∉ l → y = e ∨ y ∉ e :: l := fun y _ yl => by
        by_cases c : y = e
        · exact Or.inl c
        · exact Or.inr (fun z => by
            rcases List.mem_cons.mp z with w | w
            · exact c w
            · exact yl w)
      have skip : (1 ≤ L (fs_ae a e) → T (E e) = a) → vp_in (fs_i e) 56 ∧ ∀ y : Int32, y = fs_a N (fs_i e).toNatClampNeg → wX_grow_7 post (fs_i u) n y pr (fs_i s) (fs_i t) ed fw (fs_i f) (fs_i r) oc a1 a2 a3 (fs_a E) (fs_a L) (fs_a F) (fs_a N) a8 a9 (fs_a C) a11 a12 (fs_a Q) (fs_a D) a15 a16 a17 (fs_a T) a19 := fun hok =>
        ⟨fs_in eo.1 (by omega), nm_r (fs_rd eo.1 (by omega)) (ih l (N e) T C r Q D q hc.2 (fun y hy => hs y (List.mem_cons_of_mem _ hy)) hgi0 (fun y hy yl => by
          rcases split1 y hy yl with w | w
          · rw [w]
            exact hok
          · exact hpr y hy w) (by omega))⟩
      refine fs_lt e 0 (fun g => absurd g (by omega)) (fun _ => ⟨fs_in eo.1 (by omega), nm_r (fs_rd eo.1 (by omega)) ?_⟩)
      refine fs_iso hn hlp u0 u1 tu eo.1 eo.2.1 (fun hop => br_f (by decide) ⟨fs_in et.1 (by omega), ?_⟩) (fun hop => br_t rfl (skip (fun z => absurd z (by rw [← i5]; exact hop))))
      rw [fs_rd (L := T) et.1 (by omega), fs_rd (L := T) u0 (by omega), fs_nb (by omega) (by omega), fs_xor eo.1 (by omega), i5]
      rw [i5] at hop
      refine fs_eq (T (E e)) 0 (fun g => ⟨fs_in u0 (by omega), fs_in et.1 (by omega), nm_r (e' := fs_a (fs_u T (E e) a)) (fs_up et.1 (by omega)) ⟨fs_in u0 (by omega), ?_⟩⟩) (fun g => ⟨fs_in et.1 (by omega), fs_in u0 (by omega), ?_⟩)
      · have uv : u ≠ E e := fun z => ha (by rw [← i5, z]; exact g)
        rw [fs_rd (L := fs_u T (E e) a) u0 (by omega), fs_un uv, i5]
        have go : wX_grow_70 post (wX_grow_7 post (fs_i u) n) (fs_i u) (fs_i e) (fs_i (E e)) (fs_i (fs_ae a e)) (fs_i (E e)) pr (fs_i s) (fs_i t) ed fw (fs_i f) (fs_i r) oc a1 a2 a3 (fs_a E) (fs_a L) (fs_a F) (fs_a N) a8 a9 (fs_a C) a11 a12 (fs_a Q) (fs_a D) a15 a16 a17 (fs_a (fs_u T (E e) a)) a19 := by
          unfold wX_grow_70
          refine ⟨fs_in et.1 (by omega), nm_r (e' := fs_a (fs_u C (E e) (fs_ae a e))) (by rw [fs_b8 (by omega) (by omega), fs_up et.1 (by omega)]) ?_⟩
          refine fs_enq i4 et.1 et.2.1 (fun r' Q' D' q' hq' hqe => ⟨fs_in eo.1 (by omega), nm_r (fs_rd eo.1 (by omega)) ?_⟩)
          have hm' := fs_ifm hqe
          have z1 := hq'.2.2.1
          have z2 := i4.2.2.1
          have ⟨q2, hq2⟩ : ∃ q2, q' = u :: q2 := by
            by_cases c : E e ∈ u :: q
            · rw [if_pos c] at hqe
              exact ⟨q, hqe⟩
            · rw [if_neg c] at hqe
              exact ⟨q ++ [E e], hqe⟩
          have ntu := fs_nt_u (T := T) (z := a) et.1 et.2.1
          rw [if_pos g, if_neg ha] at ntu
          have b1 := fs_bt_gr hn i1 u0 u1 hmem (by rw [i5]; exact ha) g (by rw [i5]; exact hop)
          rw [i5] at b1
          subst hq2
          refine ih l (N e) _ _ r' Q' D' q2 hc.2 (fun y hy => hs y (List.mem_cons_of_mem _ hy)) ⟨b1, ⟨rfl, trivial, List.nodup_nil, fun y hy => (by cases hy), fun y y0 y1 ys yt hy hcy => ?_⟩, fun y y0 y1 hy yq f1 hf hl1 => ?_, hq', by rw [fs_un uv]; exact i5, by omega⟩ (fun y hy yl hyL => ?_) (by omega)
          · by_cases c : y = E e
            · rw [c, fs_us] at hcy
              omega
            · rw [fs_un c] at hy hcy
              exact i2.2.2.2.2 y y0 y1 ys yt hy hcy
          · have c : y ≠ E e := fun z => yq ((hm'.1 y).mpr (Or.inr z))
            rw [fs_un c] at hy hl1 ⊢
            have w := i3 y y0 y1 hy (fun z => yq ((hm'.1 y).mpr (Or.inl z))) f1 hf hl1
            rw [fs_un (fun z => hy (by rw [← w, z]; exact g))]
            exact w
          · by_cases c : E y = E e
            · rw [c, fs_us]
            · rw [fs_un c]
              rcases split1 y hy yl with w | w
              · exact absurd (by rw [w]) c
              · exact hpr y hy w hyL
        refine fs_eq a 1 (fun g2 => ?_) (fun g2 => ?_)
        · rw [g2, fs_ae1] at go
          rw [g2]
          exact go
        · rw [fs_aen g2] at go
          exact go
      · refine fs_eq (T (E e)) a (fun g2 => skip (fun _ => g2)) (fun g2 => ⟨fs_in u0 (by omega), ?_⟩)
        refine fs_eq a 1 (fun g3 => ?_) (fun g3 => ?_)
        · rw [g3, fs_ae1] at hop
          exact H1 T C r Q D q e hgi0 eo.1 eo.2.1 hop (by rw [eo.2.2, i5, g3]) (by omega)
        · rw [fs_aen g3] at hop
          exact H1 T C r Q D q (fs_x e) hgi0 ex.1 ex.2 hop (by rw [fs_xx]; omega) (by rw [eo.2.2, i5]; omega)
end
section
variable {m s t : Int} {E F N K Cn : Int → Int} {ou : Int → List Int} {post : St2 → Prop} {pr so sk ed fw qf qs oc : Int32} {a1 a2 a3 a4 a5 a6 a7 a8 a9 a10 a11 a12 a13 a14 a15 a16 a17 a18 a19 : Nat → Int32}
theorem fs_e6_80 (hn : fs_net m E F N ou) (hCb : Cn s ≤ 297) (s0 : 0 ≤ s) (s1 : s < 16) (t0 : 0 ≤ t) (t1 : t < 16) (st : s ≠ t)
    (H : fs_ok post pr (fs_i s) (fs_i t) ed a1 a2 a3 (fs_a E) (fs_a F) (fs_a N) (fs_mx m s t K E ou Cn)) :
    ∀ (n : Nat) (k : Int) (L T C O : Int → Int) (fl f r : Int) (Q D : Int → Int) (q : List Int), 0 ≤ k → fs_vf m s t K L ou Cn fl → fs_bt m s t E L T C → fs_or s t O T C 0 [] → fs_bo E L T ou q → fs_q f r Q D q → k + (49 * (Cn s - fl) + 2 * (16 - fs_nt T) + r) ≤ 20000 → 49 * (Cn s - fl) + 2 * (16 - fs_nt T) + r < n →
      wX_solveByTwoTrees_80 post n (fs_i k) pr (fs_i s) (fs_i t) ed (fs_i fl) (fs_i f) (fs_i r) (fs_i 0) a1 a2 a3 (fs_a E) (fs_a L) (fs_a F) (fs_a N) a8 a9 (fs_a C) a11 a12 (fs_a Q) (fs_a D) a15 a16 a17 (fs_a T) (fs_a O) := by
  intro n
  induction n with
  | zero =>
    intro k L T C O fl f r Q D q k0 hv hbt hor hbo hq hk hl
    have a := fs_vf_b hn hv s0 s1 st
    have b := fs_nt_b T
    have c := fs_q_len hq
    omega
  | succ n ih =>
    intro k L T C O fl f r Q D q k0 hv hbt hor hbo hq hk hl
    have flb := fs_vf_b hn hv s0 s1 st
    have ntb := fs_nt_b T
    have qlb := fs_q_len hq
    unfold wX_solveByTwoTrees_80
    refine fs_le 100000 k (fun g => absurd g (by omega)) (fun _ => ?_)
    cases q with
    | nil =>
      have hr : r = 0 := hq.2.2.1
      subst hr
      refine fs_le 0 0 (fun _ => H _ _ _ _ _ _ _ _ _ _ _ _ _ _ _ _ _ ⟨L, hv, ⟨fun x => T x = 1, hbt.2.1, fun z => ?_, fun x x0 x1 hx e he hle => ?_⟩⟩) (fun g => absurd g (by omega))
      · have z' : T t = 1 := z
        rw [hbt.2.2.1] at z'
        exact absurd z' (by decide)
      · have hx' : T x = 1 := hx
        have w := hbo x x0 x1 (by rw [hx']; decide) (fun z => by cases z) e he (by rw [hx', fs_ae1]; exact hle)
        show T (E e) = 1
        rw [w, hx']
    | cons u q =>
      have hr : r = (u :: q).length := hq.2.2.1
      rw [List.length_cons] at hr
      have hu := hq.2.2.2.2.2.1 u List.mem_cons_self
      have hQ : Q f = u := by
        have w := hq.2.2.2.1.1
        rw [show f % 64 = f by have a := hq.1; have b := hq.2.1; omega] at w
        exact w
      have tu := hbt.1 u hu.1 hu.2
      refine fs_le r 0 (fun g => absurd g (by omega)) (fun _ => ⟨fs_in hq.1 hq.2.1, nm_r (e' := fs_i u) (by rw [fs_rd hq.1 (by have := hq.2.1; omega), hQ]) ⟨fs_in hu.1 (by omega), ?_⟩⟩)
      have pop : ∀ (T C : Int → Int) (r' : Int) (Q D : Int → Int) (q : List Int), fs_bt m s t E L T C → fs_or s t O T C 0 [] → fs_bo E L T ou (u :: q) → fs_q f r' Q D (u :: q) → (T u ≠ 0 → ∀ e, e ∈ ou u → 1 ≤ L (fs_ae (T u) e) → T (E e) = T u) → 2 * (16 - fs_nt T) + r' ≤ 2 * (16 - fs_nt T) + r' → k + (49 * (Cn s - fl) + 2 * (16 - fs_nt T) + r') ≤ 20000 → 49 * (Cn s - fl) + 2 * (16 - fs_nt T) + r' < n + 1 →
          wX_solveByTwoTrees_121 post (wX_solveByTwoTrees_80 post n) (fs_i k) (-1) pr (fs_i s) (fs_i t) ed (fs_i fl) (fs_i f) (fs_i r') (fs_i 0) a1 a2 a3 (fs_a E) (fs_a L) (fs_a F) (fs_a N) a8 a9 (fs_a C) a11 a12 (fs_a Q) (fs_a D) a15 a16 a17 (fs_a T) (fs_a O) := by
        intro T C r' Q D q g1 g2 g3 g4 g5 _ g6 g7
        unfold wX_solveByTwoTrees_121
        refine br_t (by decide) (fs_deq g4 (fun f' D' hq' => nm_r (fs_p1 k) (ih (k + 1) L T C O fl f' (r' - 1) Q D' q (by omega) hv g1 g2 (fun x x0 x1 hx xq => ?_) hq' (by omega) (by omega))))
        by_cases c : x = u
        · rw [c]
          rw [c] at hx
          exact g5 hx
        · exact g3 x x0 x1 hx (fun z => by
            rcases List.mem_cons.mp z with w | w
            · exact c w
            · exact xq w)
      rw [fs_rd (L := T) hu.1 (by omega)]
      refine fs_eq (T u) 0 (fun g => pop T C r Q D q hbt hor hbo hq (fun z => absurd g z) (Int.le_refl _) hk (by omega)) (fun g => ?_)
      unfold wpX_grow
      dsimp only
      refine ⟨fs_in hu.1 (by omega), nm_r (fs_rd hu.1 (by omega)) ⟨(ou u).length + 1, ?_⟩⟩
      refine fs_gr_7 (O := O) (f := f) (a := T u) (B := 2 * (16 - fs_nt T) + r) hn hv.1 hu.1 hu.2 g (fun T1 C1 r1 Q1 D1 q1 hgi hall => ?_) (fun T1 C1 r1 Q1 D1 q1 b hgi b0 b1 hb hTa hTb => ?_) _ (ou u) (F u) T C r Q D q (fs_net_ch hn hu.1 hu.2) (fun x hx => hx) ⟨hbt, hor, hbo, hq, rfl, Int.le_refl _⟩ (fun e he hne => absurd he hne) (by omega)
      · obtain ⟨i1, i2, i3, i4, i5, i6⟩ := hgi
        exact pop T1 C1 r1 Q1 D1 q1 i1 i2 i3 i4 (fun _ => by rw [i5]; exact hall) (Int.le_refl _) (by omega) (by omega)
      · obtain ⟨i1, i2, i3, i4, i5, i6⟩ := hgi
        have hm := fs_net_m hn
        dsimp only
        unfold wX_solveByTwoTrees_121
        refine fs_lt b 0 (fun z => absurd z (by omega)) (fun _ => ?_)
        refine fs_br hn hv i1 i2 s0 s1 t0 t1 st b0 b1 hb hTa hTb (fun L2 C2 O2 oc2 ol2 A hA hv2 hbt2 hor2 hch => ?_)
        refine fs_ado (K := K) hn hv2.1 s0 s1 t0 t1 hbt2 hor2 (q := u :: q1) (fun x x0 x1 hx xq e he hle => ?_) i4 (fun T3 C3 O3 r3 Q3 D3 q3 hbt3 hor3 hbo3 hq3 => nm_r (fs_p1 k) ?_)
        · have eo := fs_net_ou hn x0 x1 he
          have ea := fs_ae_b (a := T1 x) hn eo.1 eo.2.1
          rcases hch _ ea.1 ea.2 hle with (w | w) | w
          · exact i3 x x0 x1 hx xq e he w
          · exfalso
            have t1x := i1.1 x x0 x1
            by_cases c : T1 x = 1
            · rw [c, fs_ae1] at w
              rw [w, fs_xx] at eo
              rw [← eo.2.2] at c
              omega
            · rw [fs_aen c] at w
              have w2 : e = b := by rw [← fs_xx e, w, fs_xx]
              rw [w2] at eo
              rw [← eo.2.2] at c
              exact c hTa
          · by_cases c : T1 x = 1
            · rw [c, fs_ae1, eo.2.2] at w
              exact w
            · rw [fs_aen c, fs_xx, eo.2.2] at w
              exact w.symm
        · have ntb3 := fs_nt_b T3
          have qlb3 := fs_q_len hq3
          have flb3 := fs_vf_b hn hv2 s0 s1 st
          have ntb1 := fs_nt_b T1
          have qlb1 := fs_q_len i4
          exact ih (k + 1) L2 T3 C3 O3 (fl + A) f r3 Q3 D3 q3 (by omega) hv2 hbt3 hor3 hbo3 hq3 (by omega) (by omega)
theorem fs_e6_6 (s0 : 0 ≤ s) (s1 : s < 16) (t0 : 0 ≤ t) (t1 : t < 16)
    (H : ∀ T C : Int → Int, (∀ x, 0 ≤ x → x < 16 → T x = (if x = s then 1 else if x = t then 2 else 0) ∧ C x = -1) → wX_solveByTwoTrees_6 post pr (fs_i s) (fs_i t) ed fw qf qs oc 1 16 a1 a2 a3 a4 a5 a6 a7 a8 a9 (fs_a C) a11 a12 a13 a14 a15 a16 a17 (fs_a T) a19) :
    ∀ (n : Nat) (k : Int) (T C : Int → Int), 0 ≤ k → k ≤ 16 → (∀ x, 0 ≤ x → x < k → T x = (if x = s then 1 else if x = t then 2 else 0) ∧ C x = -1) → 16 - k < n → wX_solveByTwoTrees_6 post pr (fs_i s) (fs_i t) ed fw qf qs oc n (fs_i k) a1 a2 a3 a4 a5 a6 a7 a8 a9 (fs_a C) a11 a12 a13 a14 a15 a16 a17 (fs_a T) a19 := by
  intro n
  induction n with
  | zero => intro k T C k0 k1 _ h; omega
  | succ n ih =>
    intro k T C k0 k1 hT h
    unfold wX_solveByTwoTrees_6
    refine fs_le 16 k (fun g => ?_) (fun g => ?_)
    · have w := H T C (fun x x0 x1 => hT x x0 (by omega))
      unfold wX_solveByTwoTrees_6 at w
      exact w.1 (by decide)
    · have go : ∀ (z : Int) (z32 : Int32), z32.toInt8.toInt32 = fs_i z → z = (if k = s then 1 else if k = t then 2 else 0) → wX_solveByTwoTrees_42 post (wX_solveByTwoTrees_6 post pr (fs_i s) (fs_i t) ed fw qf qs oc n) (fs_i k) z32 (fs_i k) pr (fs_i s) (fs_i t) ed fw qf qs oc a1 a2 a3 a4 a5 a6 a7 a8 a9 (fs_a C) a11 a12 a13 a14 a15 a16 a17 (fs_a T) a19 := by
        intro z z32 hz32 hz
        unfold wX_solveByTwoTrees_42
        rw [hz32]
        refine ⟨fs_in k0 (by omega), nm_r (e' := fs_a (fs_u T k z)) (fs_up k0 (by omega)) ⟨fs_in k0 (by omega), nm_r (e' := fs_a (fs_u C k (-1))) (fs_uq k0 (by omega) (by decide)) (nm_r (fs_p1 k) (ih (k + 1) _ _ (by omega) (by omega) (fun x x0 x1 => ?_) (by omega)))⟩⟩
        by_cases c : x = k
        · rw [c, fs_us, fs_us]
          exact ⟨hz, rfl⟩
        · rw [fs_un c, fs_un c]
          exact hT x x0 (by omega)
      refine fs_eq k s (fun c => go 1 1 (by decide) (by rw [if_pos c])) (fun c => fs_eq k t (fun c2 => go 2 2 (by decide) (by rw [if_neg c, if_pos c2])) (fun c2 => go 0 0 (by decide) (by rw [if_neg c, if_neg c2])))
theorem fs_e6 {L0 : Int → Int} (hn : fs_net m E F N ou) (hCb : Cn s ≤ 297) (hC0 : 0 ≤ Cn s) (s0 : 0 ≤ s) (s1 : s < 16) (t0 : 0 ≤ t) (t1 : t < 16) (st : s ≠ t) (hv : fs_vf m s t K L0 ou Cn 0)
    (H : fs_ok post pr (fs_i s) (fs_i t) ed a1 a2 a3 (fs_a E) (fs_a F) (fs_a N) (fs_mx m s t K E ou Cn)) :
    wpX_solveByTwoTrees post (pr, fs_i s, fs_i t, ed, fs_i 0, qf, qs, oc, a1, a2, a3, fs_a E, fs_a L0, fs_a F, fs_a N, a8, a9, a10, a11, a12, a13, a14, a15, a16, a17, a18, a19) := by
  unfold wpX_solveByTwoTrees
  dsimp only
  obtain ⟨C, rfl⟩ := fs_all a10
  obtain ⟨Q, rfl⟩ := fs_all a13
  obtain ⟨D, rfl⟩ := fs_all a14
  obtain ⟨T, rfl⟩ := fs_all a18
  obtain ⟨O, rfl⟩ := fs_all a19
  refine fs_clq (fun D1 hq => ?_)
  dsimp only
  refine ⟨17, fs_e6_6 s0 s1 t0 t1 (fun T1 C1 hT => ?_) 17 0 T C (by omega) (by omega) (fun x x0 x1 => by omega) (by omega)⟩
  unfold wX_solveByTwoTrees_6
  refine br_t (by decide) (fs_enq hq s0 s1 (fun r2 Q2 D2 q2 hq2 hqe2 => ?_))
  dsimp only
  refine fs_enq hq2 t0 t1 (fun r3 Q3 D3 q3 hq3 hqe3 => ?_)
  have m2 := (fs_ifm hqe2).1
  have m3 := (fs_ifm hqe3).1
  have qlb := fs_q_len hq3
  have ntb := fs_nt_b T1
  have hTs := (hT s s0 s1).1
  have hTt := (hT t t0 t1).1
  rw [if_pos rfl] at hTs
  rw [if_neg (fun z => st z.symm), if_pos rfl] at hTt
  refine ⟨20001, fs_e6_80 hn hCb s0 s1 t0 t1 st H 20001 0 L0 T1 C1 O 0 0 r3 Q3 D3 q3 (by omega) hv ⟨fun x x0 x1 => ?_, hTs, hTt, (hT s s0 s1).2, (hT t t0 t1).2, fun x x0 x1 => Or.inl (hT x x0 x1).2, fun x x0 x1 _ => ⟨[], ?_⟩⟩ ⟨rfl, trivial, List.nodup_nil, fun y hy => (by cases hy), fun x x0 x1 xs xt hx _ => ?_⟩ (fun x x0 x1 hx xq => ?_) hq3 (by omega) (by omega)⟩
  · rw [(hT x x0 x1).1]
    by_cases c : x = s
    · rw [if_pos c]
      exact Or.inr (Or.inl rfl)
    · rw [if_neg c]
      by_cases c2 : x = t
      · rw [if_pos c2]
        exact Or.inr (Or.inr rfl)
      · rw [if_neg c2]
        exact Or.inl rfl
  · show C1 x < 0
    rw [(hT x x0 x1).2]
    decide
  · rw [(hT x x0 x1).1, if_neg xs, if_neg xt] at hx
    exact absurd rfl hx
  · exfalso
    rw [(hT x x0 x1).1] at hx
    by_cases c : x = s
    · exact xq ((m3 x).mpr (Or.inl ((m2 x).mpr (Or.inr c))))
    · by_cases c2 : x = t
      · exact xq ((m3 x).mpr (Or.inr c2))
      · rw [if_neg c, if_neg c2] at hx
        exact hx rfl
end
end
section
/-! part 19: points, arcs, networks -/
section
variable {pr so sk ed fw qf qs oc : Int32} {a1 a2 a3 a4 a5 a6 a7 a8 a9 a10 a11 a12 a13 a14 a15 a16 a17 a18 a19 : Nat → Int32}
theorem fs_isp {post : Int32 → Prop} {a : Int} (a0 : 0 ≤ a) (a1 : a < 8) (H : post 1) : wpX_isPoint post () (fs_i a) := by
  unfold wpX_isPoint
  exact fs_lt a 0 (fun g => absurd g (by omega)) (fun _ => fs_le 8 a (fun g => absurd g (by omega)) (fun _ => H))
theorem fs_ispr {post : Int32 → Prop} {a b : Int} {p0 p1 : Int32} (a0 : 0 ≤ a) (a1 : a < 8) (b0 : 0 ≤ b) (b1 : b < 8) (hab : a ≠ b) (H : post 1) (h0 : p0 = fs_i a := by rfl) (h1 : p1 = fs_i b := by rfl) : wpX_isPair post () p0 p1 := by
  subst h0 h1
  unfold wpX_isPair
  exact fs_isp a0 a1 (br_f (by decide) (fs_isp b0 b1 (br_f (by decide) (fs_eq a b (fun g => absurd g hab) (fun _ => H)))))
theorem fs_ise {post : Int32 → Prop} {a : Int} (a0 : 0 ≤ a) (a1 : a < 7) (H : post 1) : wpX_isEngine post () (fs_i a) := by
  unfold wpX_isEngine
  exact fs_lt a 0 (fun g => absurd g (by omega)) (fun _ => fs_le 7 a (fun g => absurd g (by omega)) (fun _ => H))
theorem fs_has {post : Int32 → Prop} {k : Int} (k0 : 0 ≤ k) (k1 : k < 20) (H0 : ((pr >>> (fs_i k &&& 31)) &&& 1) = 0 → post 0) (H1 : ¬ ((pr >>> (fs_i k &&& 31)) &&& 1) = 0 → post 1) : wpX_has post (pr, so, sk, ed, fw, qf, qs, oc, a1, a2, a3, a4, a5, a6, a7, a8, a9, a10, a11, a12, a13, a14, a15, a16, a17, a18, a19) (fs_i k) := by
  unfold wpX_has
  dsimp only
  exact fs_lt k 0 (fun g => absurd g (by omega)) (fun _ => fs_le 20 k (fun g => absurd g (by omega)) (fun _ => ⟨H0, H1⟩))
theorem fs_add_23 {post : Int32 → St2 → Prop} {A1 A2 A3 : Int → Int} {a b r j : Int} {pr' : Int32} (j0 : 0 ≤ j) (j1 : j < 20) (ab : 0 ≤ a ∧ a < 100) (bb : 0 ≤ b ∧ b < 100) (rb : 0 ≤ r ∧ r < 100)
    (hb : ∀ k, 0 ≤ k → k < j → ¬ ((pr >>> (fs_i k &&& 31)) &&& 1) = 0) (hz : ((pr >>> (fs_i j &&& 31)) &&& 1) = 0) (ho : pr ||| ((1 : Int32) <<< (fs_i j &&& 31)) = pr')
    (H : post (fs_i j) (pr', so, sk, ed, fw, qf, qs, oc, fs_a (fs_u A1 j a), fs_a (fs_u A2 j b), fs_a (fs_u A3 j r), a4, a5, a6, a7, a8, a9, a10, a11, a12, a13, a14, a15, a16, a17, a18, a19)) :
    ∀ (n : Nat) (k : Int), 0 ≤ k → k ≤ j → j - k < n → wX_add_23 post (fs_i a) (fs_i b) (fs_i r) pr so sk ed fw qf qs oc (fs_a A1) (fs_a A2) (fs_a A3) a4 a5 a6 a7 a8 a9 a10 a11 a12 a13 a14 a15 a16 a17 a18 a19 n (fs_i k) := by
  intro n
  induction n with
  | zero => intro k k0 k1 h; omega
  | succ n ih =>
    intro k k0 k1 h
    unfold wX_add_23
    refine fs_le 20 k (fun g => absurd g (by omega)) (fun _ => fs_has k0 (by omega) (fun g => ?_) (fun g => ?_))
    · have e : k = j := by
        rcases Int.lt_or_le k j with z | z
        · exact absurd g (hb k k0 z)
        · omega
      subst e
      exact br_t rfl (nm_r ho ⟨fs_in k0 (by omega), nm_r (e' := fs_a (fs_u A1 k a)) (by rw [fs_b8 (by omega) (by omega), fs_up k0 (by omega)]) ⟨fs_in k0 (by omega), nm_r (e' := fs_a (fs_u A2 k b)) (by rw [fs_b8 (by omega) (by omega), fs_up k0 (by omega)]) ⟨fs_in k0 (by omega), nm_r (e' := fs_a (fs_u A3 k r)) (by rw [fs_b8 (by omega) (by omega), fs_up k0 (by omega)]) H⟩⟩⟩)
    · have c : k ≠ j := fun z => g (by rw [z]; exact hz)
      exact br_f (by decide) (nm_r (fs_p1 k) (ih (k + 1) (by omega) (by omega) (by omega)))
theorem fs_ad {post : Int32 → St2 → Prop} {A1 A2 A3 : Int → Int} {a b r j : Int} {pr' p0 p1 p2 : Int32} (j0 : 0 ≤ j) (j1 : j < 20) (a0 : 0 ≤ a) (a1 : a < 8) (b0 : 0 ≤ b) (b1 : b < 8) (hab : a ≠ b) (rb : 0 ≤ r ∧ r < 100)
    (hb : ∀ k, 0 ≤ k → k < j → ¬ ((pr >>> (fs_i k &&& 31)) &&& 1) = 0) (hz : ((pr >>> (fs_i j &&& 31)) &&& 1) = 0) (ho : pr ||| ((1 : Int32) <<< (fs_i j &&& 31)) = pr')
    (H : post (fs_i j) (pr', so, sk, ed, fw, qf, qs, oc, fs_a (fs_u A1 j a), fs_a (fs_u A2 j b), fs_a (fs_u A3 j r), a4, a5, a6, a7, a8, a9, a10, a11, a12, a13, a14, a15, a16, a17, a18, a19)) (h0 : p0 = fs_i a := by rfl) (h1 : p1 = fs_i b := by rfl) (h2 : p2 = fs_i r := by rfl) : wpX_add post (pr, so, sk, ed, fw, qf, qs, oc, fs_a A1, fs_a A2, fs_a A3, a4, a5, a6, a7, a8, a9, a10, a11, a12, a13, a14, a15, a16, a17, a18, a19) p0 p1 p2 := by
  subst h0 h1 h2
  unfold wpX_add
  dsimp only
  exact fs_ispr a0 a1 b0 b1 hab (br_f (by decide) (fs_lt r 0 (fun g => absurd g (by omega)) (fun _ => fs_le r 99 (fun _ => ⟨21, fs_add_23 j0 j1 (by omega) (by omega) rb hb hz ho H 21 0 (by omega) (by omega) (by omega)⟩) (fun g => absurd g (by omega)))))
theorem fs_ade {post : St2 → Prop} {E L F N : Int → Int} {d d1 d2 a b r : Int} (h1 : d1 = d + 1) (h2 : d2 = d + 2) (d0 : 0 ≤ d) (db : d < 54) (y0 : 0 ≤ a) (y1 : a < 16) (b0 : 0 ≤ b) (b1 : b < 16) (hab : a ≠ b) (fa : -128 ≤ F a ∧ F a < 128) (fb : -128 ≤ F b ∧ F b < 128)
    (H : post (pr, so, sk, fs_i d2, fw, qf, qs, oc, a1, a2, a3, fs_a (fs_u (fs_u E d b) d1 a), fs_a (fs_u (fs_u L d r) d1 0), fs_a (fs_u (fs_u F a d) b d1), fs_a (fs_u (fs_u N d (F a)) d1 (F b)), a8, a9, a10, a11, a12, a13, a14, a15, a16, a17, a18, a19)) {p0 p1 : Int32} (h0 : p0 = fs_i a := by rfl) (hb : p1 = fs_i b := by rfl) : wpX_addEdge post (pr, so, sk, fs_i d, fw, qf, qs, oc, a1, a2, a3, fs_a E, fs_a L, fs_a F, fs_a N, a8, a9, a10, a11, a12, a13, a14, a15, a16, a17, a18, a19) p0 p1 (fs_i r) := by
  subst h1 h2 h0 hb
  unfold wpX_addEdge
  dsimp only
  rw [fs_p1]
  refine ⟨fs_in d0 (by omega), nm_r (e' := fs_a (fs_u E d b)) (by rw [fs_b8 (by omega) (by omega), fs_up d0 (by omega)]) ⟨fs_in d0 (by omega), nm_r (e' := fs_a (fs_u L d r)) (fs_up d0 (by omega)) ⟨fs_in y0 (by omega), fs_in d0 (by omega), nm_r (e' := fs_a (fs_u N d (F a))) (by rw [fs_rd y0 (by omega), fs_nb fa.1 fa.2, fs_up d0 (by omega)]) ⟨fs_in y0 (by omega), nm_r (e' := fs_a (fs_u F a d)) (by rw [fs_b8 (by omega) (by omega), fs_up y0 (by omega)]) ⟨fs_in (by omega) (by omega), nm_r (e' := fs_a (fs_u (fs_u E d b) (d + 1) a)) (by rw [fs_b8 (by omega) (by omega), fs_up (by omega) (by omega)]) ⟨fs_in (by omega) (by omega), nm_r (e' := fs_a (fs_u (fs_u L d r) (d + 1) 0)) (fs_uq (by omega) (by omega)) ⟨fs_in b0 (by omega), fs_in (by omega) (by omega), nm_r (e' := fs_a (fs_u (fs_u N d (F a)) (d + 1) (F b))) (by rw [fs_rd b0 (by omega), fs_un (fun z => hab z.symm), fs_nb fb.1 fb.2, fs_up (by omega) (by omega)]) ⟨fs_in b0 (by omega), nm_r (e' := fs_a (fs_u (fs_u F a d) b (d + 1))) (by rw [fs_b8 (by omega) (by omega), fs_up b0 (by omega)]) (nm_r (e' := fs_i (d + 2)) (fs_add d 2) H)⟩⟩⟩⟩⟩⟩⟩⟩
def fs_of (kd s t a : Int) : Int := if kd < 2 then a else if a = s then a else if a = t then a else a + 8
theorem fs_out {post : Int32 → Prop} {kd s t a : Int} {p0 : Int32} (kb : 0 ≤ kd ∧ kd < 4) (ab : 0 ≤ a ∧ a < 8) (sb : 0 ≤ s ∧ s < 8) (tb : 0 ≤ t ∧ t < 8) (H : post (fs_i (fs_of kd s t a))) (h0 : p0 = fs_i a := by rfl) : wpX_outOf post (pr, fs_i s, fs_i t, ed, fw, qf, qs, oc, a1, a2, a3, a4, a5, a6, a7, a8, a9, a10, a11, a12, a13, a14, a15, a16, a17, a18, a19) p0 (fs_i kd) := by
  subst h0
  unfold wpX_outOf
  dsimp only
  unfold fs_of at H
  have no : post (fs_i a) → wX_outOf_25 post (fs_i a) pr (fs_i s) (fs_i t) ed fw qf qs oc a1 a2 a3 a4 a5 a6 a7 a8 a9 a10 a11 a12 a13 a14 a15 a16 a17 a18 a19 := fun h => by
    unfold wX_outOf_25 wX_outOf_26
    exact br_t rfl h
  refine fs_lt kd 2 (fun g => no ?_) (fun g => fs_eq a s (fun g2 => no ?_) (fun g2 => fs_eq a t (fun g3 => no ?_) (fun g3 => ?_)))
  · rw [if_pos g] at H
    exact H
  · rw [if_neg (by omega), if_pos g2] at H
    exact H
  · rw [if_neg (by omega), if_neg g2, if_pos g3] at H
    exact H
  · rw [if_neg (by omega), if_neg g2, if_neg g3] at H
    unfold wX_outOf_26
    exact br_f (by decide) (by rw [show (8 : Int32) = fs_i 8 from rfl, fs_add]; exact H)
/-- an arc is laid -/
theorem fs_ly_s {post : St2 → Prop} {A1 A2 A3 E L F N : Int → Int} {kd s t mu k d d1 d2 a a' b r : Int} {n : Nat} (k' : Int) (hk : k' = k + 1) (kb : 0 ≤ k ∧ k < 20) (kdb : kd = 0 ∨ kd = 3) (sb : 0 ≤ s ∧ s < 8) (tb : 0 ≤ t ∧ t < 8) (hbit : ¬ ((pr >>> (fs_i k &&& 31)) &&& 1) = 0)
    (e1 : A1 k = a) (e2 : A2 k = b) (e3 : A3 k = r) (ab : 0 ≤ a ∧ a < 8) (hof : fs_of kd s t a = a') (a'b : 0 ≤ a' ∧ a' < 16) (bb : 0 ≤ b ∧ b < 16) (rb : 0 ≤ r ∧ r < 100) (hab : a' ≠ b) (h1 : d1 = d + 1) (h2 : d2 = d + 2) (d0 : 0 ≤ d) (db : d < 54) {va vb : Int} (hva : F a' = va) (hvb : F b = vb) (fa : -128 ≤ va ∧ va < 128) (fb : -128 ≤ vb ∧ vb < 128)
    (H : wX_lay_47 post (fs_i kd) (fs_i s) (fs_i t) (fs_i mu) n (fs_i k') pr (fs_i s) (fs_i t) (fs_i d2) fw qf qs oc (fs_a A1) (fs_a A2) (fs_a A3) (fs_a (fs_u (fs_u E d b) d1 a')) (fs_a (fs_u (fs_u L d r) d1 0)) (fs_a (fs_u (fs_u F a' d) b d1)) (fs_a (fs_u (fs_u N d va) d1 vb)) a8 a9 a10 a11 a12 a13 a14 a15 a16 a17 a18 a19) :
    wX_lay_47 post (fs_i kd) (fs_i s) (fs_i t) (fs_i mu) (n + 1) (fs_i k) pr (fs_i s) (fs_i t) (fs_i d) fw qf qs oc (fs_a A1) (fs_a A2) (fs_a A3) (fs_a E) (fs_a L) (fs_a F) (fs_a N) a8 a9 a10 a11 a12 a13 a14 a15 a16 a17 a18 a19 := by
  subst hk hva hvb
  unfold wX_lay_47
  have go : ∀ z0, wX_lay_82 post (wX_lay_47 post (fs_i kd) (fs_i s) (fs_i t) (fs_i mu) n) (fs_i kd) (fs_i s) (fs_i t) (fs_i mu) (fs_i k) (fs_i r) z0 pr (fs_i s) (fs_i t) (fs_i d) fw qf qs oc (fs_a A1) (fs_a A2) (fs_a A3) (fs_a E) (fs_a L) (fs_a F) (fs_a N) a8 a9 a10 a11 a12 a13 a14 a15 a16 a17 a18 a19 := by
    intro z0
    unfold wX_lay_82
    rw [fs_rd (L := A1) kb.1 (by omega), fs_rd (L := A2) kb.1 (by omega), e1, e2]
    refine ⟨fs_in kb.1 (by omega), fs_out (by omega) ab sb tb ⟨fs_in kb.1 (by omega), ?_⟩⟩
    refine fs_eq kd 1 (fun g => absurd g (by omega)) (fun _ => fs_eq kd 2 (fun g => absurd g (by omega)) (fun _ => ?_))
    unfold wX_lay_125
    rw [hof]
    exact fs_ade h1 h2 d0 db a'b.1 a'b.2 bb.1 bb.2 hab fa fb (nm_r (fs_p1 k) H)
  refine fs_le 20 k (fun g => absurd g (by omega)) (fun _ => fs_has kb.1 (by omega) (fun g => absurd g hbit) (fun _ => br_f (by decide) ⟨fs_in kb.1 (by omega), nm_r (e' := fs_i r) (by rw [fs_rd kb.1 (by omega), e3]) ?_⟩))
  exact fs_le r 0 (fun _ => go 0) (fun _ => go 1)
/-- no more arcs -/
theorem fs_ly_e {post : St2 → Prop} {kd s t mu k0 : Int} (hk0 : 0 ≤ k0) (hbit : ∀ k, k0 ≤ k → k < 20 → ((pr >>> (fs_i k &&& 31)) &&& 1) = 0)
    (H : ∃ fu, wX_lay_137 post (fs_i kd) (fs_i s) (fs_i t) (fs_i mu) fu 0 pr so sk ed fw qf qs oc a1 a2 a3 a4 a5 a6 a7 a8 a9 a10 a11 a12 a13 a14 a15 a16 a17 a18 a19) :
    ∀ (n : Nat) (k : Int), k0 ≤ k → k ≤ 20 → 20 - k < n → wX_lay_47 post (fs_i kd) (fs_i s) (fs_i t) (fs_i mu) n (fs_i k) pr so sk ed fw qf qs oc a1 a2 a3 a4 a5 a6 a7 a8 a9 a10 a11 a12 a13 a14 a15 a16 a17 a18 a19 := by
  intro n
  induction n with
  | zero => intro k _ _ h; omega
  | succ n ih =>
    intro k kk k1 h
    unfold wX_lay_47
    exact fs_le 20 k (fun _ => H) (fun g => fs_has (by omega) g (fun _ => br_t rfl (nm_r (fs_p1 k) (ih (k + 1) (by omega) (by omega) (by omega)))) (fun z => absurd (hbit k kk g) z))
theorem fs_ly_23 {post : St2 → Prop} {kd s t mu : Int32} (H : ∀ F : Int → Int, (∀ x, 0 ≤ x → x < 16 → F x = -1) → ∃ fu, wX_lay_47 post kd s t mu fu 0 pr so sk ed fw qf qs oc a1 a2 a3 a4 a5 (fs_a F) a7 a8 a9 a10 a11 a12 a13 a14 a15 a16 a17 a18 a19) :
    ∀ (n : Nat) (k : Int) (F : Int → Int), 0 ≤ k → k ≤ 16 → (∀ x, 0 ≤ x → x < k → F x = -1) → 16 - k < n → wX_lay_23 post kd s t mu pr so sk ed fw qf qs oc n (fs_i k) a1 a2 a3 a4 a5 (fs_a F) a7 a8 a9 a10 a11 a12 a13 a14 a15 a16 a17 a18 a19 := by
  intro n
  induction n with
  | zero => intro k F k0 k1 _ h; omega
  | succ n ih =>
    intro k F k0 k1 hF h
    unfold wX_lay_23
    refine fs_le 16 k (fun g => H F (fun x x0 x1 => hF x x0 (by omega))) (fun g => ⟨fs_in k0 (by omega), nm_r (e' := fs_a (fs_u F k (-1))) (fs_uq k0 (by omega) (by decide)) (nm_r (fs_p1 k) (ih (k + 1) _ (by omega) (by omega) (fun x x0 x1 => ?_) (by omega)))⟩)
    by_cases c : x = k
    · rw [c, fs_us]
    · rw [fs_un c]
      exact hF x x0 (by omega)
/-- a point is made two -/
theorem fs_ly_t {post : St2 → Prop} {E L F N : Int → Int} {s t mu k b d d1 d2 : Int} {n : Nat} (k' : Int) (hk : k' = k + 1) (hb : b = k + 8) (kb : 0 ≤ k ∧ k < 8) (sb : 0 ≤ s ∧ s < 8) (tb : 0 ≤ t ∧ t < 8) (ks : k ≠ s) (kt : k ≠ t) (h1 : d1 = d + 1) (h2 : d2 = d + 2) (d0 : 0 ≤ d) (db : d < 54) {va vb : Int} (hva : F k = va) (hvb : F b = vb) (fa : -128 ≤ va ∧ va < 128) (fb : -128 ≤ vb ∧ vb < 128)
    (H : wX_lay_137 post (fs_i 3) (fs_i s) (fs_i t) (fs_i mu) n (fs_i k') pr so sk (fs_i d2) fw qf qs oc a1 a2 a3 (fs_a (fs_u (fs_u E d b) d1 k)) (fs_a (fs_u (fs_u L d mu) d1 0)) (fs_a (fs_u (fs_u F k d) b d1)) (fs_a (fs_u (fs_u N d va) d1 vb)) a8 a9 a10 a11 a12 a13 a14 a15 a16 a17 a18 a19) :
    wX_lay_137 post (fs_i 3) (fs_i s) (fs_i t) (fs_i mu) (n + 1) (fs_i k) pr so sk (fs_i d) fw qf qs oc a1 a2 a3 (fs_a E) (fs_a L) (fs_a F) (fs_a N) a8 a9 a10 a11 a12 a13 a14 a15 a16 a17 a18 a19 := by
  subst hk hb hva hvb
  unfold wX_lay_137
  refine fs_le 8 k (fun g => absurd g (by omega)) (fun _ => fs_lt 3 2 (fun g => absurd g (by omega)) (fun _ => fs_eq k s (fun g => absurd g ks) (fun _ => fs_eq k t (fun g => absurd g kt) (fun _ => ?_))))
  exact fs_ade h1 h2 d0 db kb.1 (by omega) (by omega) (by omega) (by omega) fa fb (nm_r (fs_p1 k) H) rfl (fs_add k 8)
theorem fs_ly_u {post : St2 → Prop} {s t mu k : Int} {n : Nat} (k' : Int) (hk : k' = k + 1) (kb : 0 ≤ k ∧ k < 8) (sb : 0 ≤ s ∧ s < 8) (tb : 0 ≤ t ∧ t < 8) (ks : k = s ∨ k = t)
    (H : wX_lay_137 post (fs_i 3) (fs_i s) (fs_i t) (fs_i mu) n (fs_i k') pr so sk ed fw qf qs oc a1 a2 a3 a4 a5 a6 a7 a8 a9 a10 a11 a12 a13 a14 a15 a16 a17 a18 a19) :
    wX_lay_137 post (fs_i 3) (fs_i s) (fs_i t) (fs_i mu) (n + 1) (fs_i k) pr so sk ed fw qf qs oc a1 a2 a3 a4 a5 a6 a7 a8 a9 a10 a11 a12 a13 a14 a15 a16 a17 a18 a19 := by
  subst hk
  unfold wX_lay_137
  exact fs_le 8 k (fun g => absurd g (by omega)) (fun _ => fs_lt 3 2 (fun g => absurd g (by omega)) (fun _ => fs_eq k s (fun _ => nm_r (fs_p1 k) H) (fun g => fs_eq k t (fun _ => nm_r (fs_p1 k) H) (fun g2 => absurd ks (fun z => z.elim g g2)))))
end
end
section
/-! part 20: the two networks (printed by mk20.py) -/
def fs_tb (l : List Int) (e : Int) : Int := l.getD e.toNat 0
def fs_lb (l : List (List Int)) (u : Int) : List Int := l.getD u.toNat []
def fs_chb (N : Int → Int) : List Int → Int → Bool | [], e => decide (e = -1) | x :: l, e => decide (e = x) && fs_chb N l (N x)
theorem fs_chs {N : Int → Int} : ∀ {l : List Int} {e : Int}, fs_chb N l e = true → fs_ch N l e := by
  intro l
  induction l with
  | nil =>
    intro e h
    have h' : decide (e = -1) = true := h
    exact (of_decide_eq_true h' : e = -1)
  | cons x l ih =>
    intro e h
    have w := (Bool.and_eq_true _ _).mp h
    exact ⟨of_decide_eq_true w.1, ih w.2⟩
theorem fs_net_tb {m : Nat} {E F N : Int → Int} {ou : Int → List Int} (h1 : (m : Int) ≤ 56) (h2 : (m : Int) % 2 = 0)
    (k1 : ∀ k : Fin 16, fs_chb N (ou (k.val : Int)) (F (k.val : Int)) = true ∧ (ou (k.val : Int)).Nodup ∧ ∀ e, e ∈ ou (k.val : Int) → 0 ≤ e ∧ e < m ∧ E (fs_x e) = (k.val : Int))
    (k2 : ∀ k : Fin m, 0 ≤ E (k.val : Int) ∧ E (k.val : Int) < 16 ∧ E (k.val : Int) ≠ E (fs_x (k.val : Int)) ∧ (k.val : Int) ∈ ou (E (fs_x (k.val : Int)))) : fs_net m E F N ou := by
  refine ⟨h1, h2, fun u u0 u1 => ?_, fun e e0 e1 => ?_⟩
  · have w := k1 ⟨u.toNat, by omega⟩
    dsimp only at w
    rw [Int.toNat_of_nonneg u0] at w
    exact ⟨fs_chs w.1, w.2⟩
  · have w := k2 ⟨e.toNat, by omega⟩
    dsimp only at w
    rw [Int.toNat_of_nonneg e0] at w
    exact w
theorem fs_ch_c {N N' : Int → Int} : ∀ {l : List Int} {e : Int}, (∀ x, x ∈ l → N' x = N x) → fs_ch N l e → fs_ch N' l e := by
  intro l
  induction l with
  | nil => intro e _ h; exact h
  | cons x l ih =>
    intro e hx h
    refine ⟨h.1, ?_⟩
    rw [hx x List.mem_cons_self]
    exact ih (fun y hy => hx y (List.mem_cons_of_mem _ hy)) h.2
theorem fs_net_ag {m : Int} {E F N E' F' N' : Int → Int} {ou : Int → List Int} (h : fs_net m E F N ou) (he : ∀ e, 0 ≤ e → e < m → E' e = E e ∧ N' e = N e) (hf : ∀ u, 0 ≤ u → u < 16 → F' u = F u) : fs_net m E' F' N' ou := by
  refine ⟨h.1, h.2.1, fun u u0 u1 => ?_, fun e e0 e1 => ?_⟩
  · have a := h.2.2.1 u u0 u1
    refine ⟨?_, a.2.1, fun e hm => ?_⟩
    · rw [hf u u0 u1]
      exact fs_ch_c (fun x hx => (he x (a.2.2 x hx).1 (a.2.2 x hx).2.1).2) a.1
    · have b := a.2.2 e hm
      have c := fs_net_x h b.1 b.2.1
      rw [(he _ c.1 c.2).1]
      exact b
  · have c := fs_net_x h e0 e1
    rw [(he e e0 e1).1, (he _ c.1 c.2).1]
    exact h.2.2.2 e e0 e1
theorem fs_ini {m : Int} {E F N L W : Int → Int} {ou : Int → List Int} (hn : fs_net m E F N ou) (hag : ∀ e, 0 ≤ e → e < m → L e = W e) (hb : ∀ e, 0 ≤ e → e < m → 0 ≤ W e ∧ W e + W (fs_x e) ≤ 99) :
    fs_lp m (fun e => W e + W (fs_x e)) L ∧ ∀ u, 0 ≤ u → u < 16 → fs_m L (ou u) = fs_m W (ou u) := by
  refine ⟨fun e e0 e1 => ?_, fun u u0 u1 => fs_m_c (fun e he => hag e (fs_net_ou hn u0 u1 he).1 (fs_net_ou hn u0 u1 he).2.1)⟩
  have c := fs_net_x hn e0 e1
  rw [hag e e0 e1, hag _ c.1 c.2]
  exact ⟨(hb e e0 e1).1, rfl, (hb e e0 e1).2⟩
theorem fs_c10 {P : Int → Prop} (h0 : P 0) (h1 : P 1) (h2 : P 2) (h3 : P 3) (h4 : P 4) (h5 : P 5) (h6 : P 6) (h7 : P 7) (h8 : P 8) (h9 : P 9) : ∀ e, 0 ≤ e → e < 10 → P e := by
  intro e e0 e1
  have w : e = 0 ∨ e = 1 ∨ e = 2 ∨ e = 3 ∨ e = 4 ∨ e = 5 ∨ e = 6 ∨ e = 7 ∨ e = 8 ∨ e = 9 := by omega
  rcases w with w | w | w | w | w | w | w | w | w | w
  · rw [w]
    exact h0
  · rw [w]
    exact h1
  · rw [w]
    exact h2
  · rw [w]
    exact h3
  · rw [w]
    exact h4
  · rw [w]
    exact h5
  · rw [w]
    exact h6
  · rw [w]
    exact h7
  · rw [w]
    exact h8
  · rw [w]
    exact h9
theorem fs_c22 {P : Int → Prop} (h0 : P 0) (h1 : P 1) (h2 : P 2) (h3 : P 3) (h4 : P 4) (h5 : P 5) (h6 : P 6) (h7 : P 7) (h8 : P 8) (h9 : P 9) (h10 : P 10) (h11 : P 11) (h12 : P 12) (h13 : P 13) (h14 : P 14) (h15 : P 15) (h16 : P 16) (h17 : P 17) (h18 : P 18) (h19 : P 19) (h20 : P 20) (h21 : P 21) : ∀ e, 0 ≤ e → e < 22 → P e := by
  intro e e0 e1
  have w : e = 0 ∨ e = 1 ∨ e = 2 ∨ e = 3 ∨ e = 4 ∨ e = 5 ∨ e = 6 ∨ e = 7 ∨ e = 8 ∨ e = 9 ∨ e = 10 ∨ e = 11 ∨ e = 12 ∨ e = 13 ∨ e = 14 ∨ e = 15 ∨ e = 16 ∨ e = 17 ∨ e = 18 ∨ e = 19 ∨ e = 20 ∨ e = 21 := by omega
  rcases w with w | w | w | w | w | w | w | w | w | w | w | w | w | w | w | w | w | w | w | w | w | w
  · rw [w]
    exact h0
  · rw [w]
    exact h1
  · rw [w]
    exact h2
  · rw [w]
    exact h3
  · rw [w]
    exact h4
  · rw [w]
    exact h5
  · rw [w]
    exact h6
  · rw [w]
    exact h7
  · rw [w]
    exact h8
  · rw [w]
    exact h9
  · rw [w]
    exact h10
  · rw [w]
    exact h11
  · rw [w]
    exact h12
  · rw [w]
    exact h13
  · rw [w]
    exact h14
  · rw [w]
    exact h15
  · rw [w]
    exact h16
  · rw [w]
    exact h17
  · rw [w]
    exact h18
  · rw [w]
    exact h19
  · rw [w]
    exact h20
  · rw [w]
    exact h21
theorem fs_c16 {P : Int → Prop} (h0 : P 0) (h1 : P 1) (h2 : P 2) (h3 : P 3) (h4 : P 4) (h5 : P 5) (h6 : P 6) (h7 : P 7) (h8 : P 8) (h9 : P 9) (h10 : P 10) (h11 : P 11) (h12 : P 12) (h13 : P 13) (h14 : P 14) (h15 : P 15) : ∀ e, 0 ≤ e → e < 16 → P e := by
  intro e e0 e1
  have w : e = 0 ∨ e = 1 ∨ e = 2 ∨ e = 3 ∨ e = 4 ∨ e = 5 ∨ e = 6 ∨ e = 7 ∨ e = 8 ∨ e = 9 ∨ e = 10 ∨ e = 11 ∨ e = 12 ∨ e = 13 ∨ e = 14 ∨ e = 15 := by omega
  rcases w with w | w | w | w | w | w | w | w | w | w | w | w | w | w | w | w
  · rw [w]
    exact h0
  · rw [w]
    exact h1
  · rw [w]
    exact h2
  · rw [w]
    exact h3
  · rw [w]
    exact h4
  · rw [w]
    exact h5
  · rw [w]
    exact h6
  · rw [w]
    exact h7
  · rw [w]
    exact h8
  · rw [w]
    exact h9
  · rw [w]
    exact h10
  · rw [w]
    exact h11
  · rw [w]
    exact h12
  · rw [w]
    exact h13
  · rw [w]
    exact h14
  · rw [w]
    exact h15
def fs_pE : Int → Int := fs_tb [1, 0, 2, 0, 3, 1, 3, 2, 2, 1]
def fs_pF : Int → Int := fs_tb [2, 8, 9, 7, -1, -1, -1, -1, -1, -1, -1, -1, -1, -1, -1, -1]
def fs_pN : Int → Int := fs_tb [-1, -1, 0, -1, 1, -1, 3, 5, 4, 6]
def fs_pO : Int → List Int := fs_lb [[2, 0], [8, 4, 1], [9, 6, 3], [7, 5], [], [], [], [], [], [], [], [], [], [], [], []]
theorem fs_pnet : fs_net 10 fs_pE fs_pF fs_pN fs_pO := fs_net_tb (m := 10) (by decide) (by decide) (by decide +kernel) (by decide +kernel)
theorem fs_plen : ∀ u, 0 ≤ u → u < 16 → (fs_pO u).length ≤ 3 := fs_c16 (by decide) (by decide) (by decide) (by decide) (by decide) (by decide) (by decide) (by decide) (by decide) (by decide) (by decide) (by decide) (by decide) (by decide) (by decide) (by decide)
def fs_tE : Int → Int := fs_tb [1, 0, 2, 0, 3, 9, 3, 10, 2, 9, 9, 1, 10, 2, 12, 4, 13, 5, 14, 6, 15, 7]
def fs_tF : Int → Int := fs_tb [2, 10, 12, 7, 14, 16, 18, 20, -1, 11, 13, -1, 15, 17, 19, 21]
def fs_tN : Int → Int := fs_tb [-1, -1, 0, -1, -1, -1, -1, 5, 4, 3, 1, 8, 9, 6, -1, -1, -1, -1, -1, -1, -1, -1]
def fs_tO : Int → List Int := fs_lb [[2, 0], [10, 1], [12, 9, 3], [7, 5], [14], [16], [18], [20], [], [11, 8, 4], [13, 6], [], [15], [17], [19], [21]]
theorem fs_tnet : fs_net 22 fs_tE fs_tF fs_tN fs_tO := fs_net_tb (m := 22) (by decide) (by decide) (by decide +kernel) (by decide +kernel)
theorem fs_tlen : ∀ u, 0 ≤ u → u < 16 → (fs_tO u).length ≤ 3 := fs_c16 (by decide) (by decide) (by decide) (by decide) (by decide) (by decide) (by decide) (by decide) (by decide) (by decide) (by decide) (by decide) (by decide) (by decide) (by decide) (by decide)
def fs_pL (p q r u v : Int) : Int → Int := fs_tb [p, 0, q, 0, r, 0, u, 0, v, 0]
def fs_tL (p q r u v mu : Int) : Int → Int := fs_tb [p, 0, q, 0, r, 0, u, 0, v, 0, mu, 0, mu, 0, mu, 0, mu, 0, mu, 0, mu, 0]
section
variable {p q r u v mu : Int}
theorem fs_pbd (hp : 0 ≤ p ∧ p ≤ 99) (hq : 0 ≤ q ∧ q ≤ 99) (hr : 0 ≤ r ∧ r ≤ 99) (hu : 0 ≤ u ∧ u ≤ 99) (hv : 0 ≤ v ∧ v ≤ 99) : ∀ e, 0 ≤ e → e < 10 → 0 ≤ fs_pL p q r u v e ∧ fs_pL p q r u v e + fs_pL p q r u v (fs_x e) ≤ 99 := by
  refine fs_c10 ?_ ?_ ?_ ?_ ?_ ?_ ?_ ?_ ?_ ?_
  · show 0 ≤ p ∧ p + 0 ≤ 99
    omega
  · show 0 ≤ (0 : Int) ∧ (0 : Int) + p ≤ 99
    omega
  · show 0 ≤ q ∧ q + 0 ≤ 99
    omega
  · show 0 ≤ (0 : Int) ∧ (0 : Int) + q ≤ 99
    omega
  · show 0 ≤ r ∧ r + 0 ≤ 99
    omega
  · show 0 ≤ (0 : Int) ∧ (0 : Int) + r ≤ 99
    omega
  · show 0 ≤ u ∧ u + 0 ≤ 99
    omega
  · show 0 ≤ (0 : Int) ∧ (0 : Int) + u ≤ 99
    omega
  · show 0 ≤ v ∧ v + 0 ≤ 99
    omega
  · show 0 ≤ (0 : Int) ∧ (0 : Int) + v ≤ 99
    omega
theorem fs_tbd (hp : 0 ≤ p ∧ p ≤ 99) (hq : 0 ≤ q ∧ q ≤ 99) (hr : 0 ≤ r ∧ r ≤ 99) (hu : 0 ≤ u ∧ u ≤ 99) (hv : 0 ≤ v ∧ v ≤ 99) (hmu : 0 ≤ mu ∧ mu ≤ 99) : ∀ e, 0 ≤ e → e < 22 → 0 ≤ fs_tL p q r u v mu e ∧ fs_tL p q r u v mu e + fs_tL p q r u v mu (fs_x e) ≤ 99 := by
  refine fs_c22 ?_ ?_ ?_ ?_ ?_ ?_ ?_ ?_ ?_ ?_ ?_ ?_ ?_ ?_ ?_ ?_ ?_ ?_ ?_ ?_ ?_ ?_
  · show 0 ≤ p ∧ p + 0 ≤ 99
    omega
  · show 0 ≤ (0 : Int) ∧ (0 : Int) + p ≤ 99
    omega
  · show 0 ≤ q ∧ q + 0 ≤ 99
    omega
  · show 0 ≤ (0 : Int) ∧ (0 : Int) + q ≤ 99
    omega
  · show 0 ≤ r ∧ r + 0 ≤ 99
    omega
  · show 0 ≤ (0 : Int) ∧ (0 : Int) + r ≤ 99
    omega
  · show 0 ≤ u ∧ u + 0 ≤ 99
    omega
  · show 0 ≤ (0 : Int) ∧ (0 : Int) + u ≤ 99
    omega
  · show 0 ≤ v ∧ v + 0 ≤ 99
    omega
  · show 0 ≤ (0 : Int) ∧ (0 : Int) + v ≤ 99
    omega
  · show 0 ≤ mu ∧ mu + 0 ≤ 99
    omega
  · show 0 ≤ (0 : Int) ∧ (0 : Int) + mu ≤ 99
    omega
  · show 0 ≤ mu ∧ mu + 0 ≤ 99
    omega
  · show 0 ≤ (0 : Int) ∧ (0 : Int) + mu ≤ 99
    omega
  · show 0 ≤ mu ∧ mu + 0 ≤ 99
    omega
  · show 0 ≤ (0 : Int) ∧ (0 : Int) + mu ≤ 99
    omega
  · show 0 ≤ mu ∧ mu + 0 ≤ 99
    omega
  · show 0 ≤ (0 : Int) ∧ (0 : Int) + mu ≤ 99
    omega
  · show 0 ≤ mu ∧ mu + 0 ≤ 99
    omega
  · show 0 ≤ (0 : Int) ∧ (0 : Int) + mu ≤ 99
    omega
  · show 0 ≤ mu ∧ mu + 0 ≤ 99
    omega
  · show 0 ≤ (0 : Int) ∧ (0 : Int) + mu ≤ 99
    omega
def fs_k0 : Int → Int := fs_tb [16, 17, 18, 0, 17, 17, 17, 17, 17, 17, 17, 17, 17, 17, 17, 17]
theorem fs_k0_cp (hp : 0 ≤ p ∧ p ≤ 99) (hq : 0 ≤ q ∧ q ≤ 99) (hr : 0 ≤ r ∧ r ≤ 99) (hu : 0 ≤ u ∧ u ≤ 99) (hv : 0 ≤ v ∧ v ≤ 99) {E : Int → Int} (hE : ∀ e, 0 ≤ e → e < 10 → E e = fs_pE e) : fs_cp 10 0 3 E (fun e => fs_pL p q r u v e + fs_pL p q r u v (fs_x e)) (fun x => fs_m (fs_pL p q r u v) (fs_pO x)) fs_k0 fs_pO := by
  refine ⟨rfl, rfl, fs_c16 ?_ ?_ ?_ ?_ ?_ ?_ ?_ ?_ ?_ ?_ ?_ ?_ ?_ ?_ ?_ ?_, fs_c16 ?_ ?_ ?_ ?_ ?_ ?_ ?_ ?_ ?_ ?_ ?_ ?_ ?_ ?_ ?_ ?_, fun L x hlp => ?_⟩
  · exact fun a b => absurd rfl a
  · exact fun _ _ => by decide
  · exact fun _ _ => by decide
  · exact fun a b => absurd rfl b
  · exact fun _ _ => by decide
  · exact fun _ _ => by decide
  · exact fun _ _ => by decide
  · exact fun _ _ => by decide
  · exact fun _ _ => by decide
  · exact fun _ _ => by decide
  · exact fun _ _ => by decide
  · exact fun _ _ => by decide
  · exact fun _ _ => by decide
  · exact fun _ _ => by decide
  · exact fun _ _ => by decide
  · exact fun _ _ => by decide
  · refine ⟨?_, by decide⟩
    show 0 ≤ ((q + (p + 0)) : Int)
    omega
  · refine ⟨?_, by decide⟩
    show 0 ≤ ((v + (r + (0 + 0))) : Int)
    omega
  · refine ⟨?_, by decide⟩
    show 0 ≤ ((0 + (u + (0 + 0))) : Int)
    omega
  · refine ⟨?_, by decide⟩
    show 0 ≤ ((0 + (0 + 0)) : Int)
    omega
  · refine ⟨?_, by decide⟩
    show 0 ≤ (0 : Int)
    omega
  · refine ⟨?_, by decide⟩
    show 0 ≤ (0 : Int)
    omega
  · refine ⟨?_, by decide⟩
    show 0 ≤ (0 : Int)
    omega
  · refine ⟨?_, by decide⟩
    show 0 ≤ (0 : Int)
    omega
  · refine ⟨?_, by decide⟩
    show 0 ≤ (0 : Int)
    omega
  · refine ⟨?_, by decide⟩
    show 0 ≤ (0 : Int)
    omega
  · refine ⟨?_, by decide⟩
    show 0 ≤ (0 : Int)
    omega
  · refine ⟨?_, by decide⟩
    show 0 ≤ (0 : Int)
    omega
  · refine ⟨?_, by decide⟩
    show 0 ≤ (0 : Int)
    omega
  · refine ⟨?_, by decide⟩
    show 0 ≤ (0 : Int)
    omega
  · refine ⟨?_, by decide⟩
    show 0 ≤ (0 : Int)
    omega
  · refine ⟨?_, by decide⟩
    show 0 ≤ (0 : Int)
    omega
  have k0 : 0 ≤ L 0 ∧ L 0 + L 1 = p + 0 := ⟨(hlp 0 (by decide) (by decide)).1, (hlp 0 (by decide) (by decide)).2.1⟩
  have k1 : 0 ≤ L 1 ∧ L 1 + L 0 = 0 + p := ⟨(hlp 1 (by decide) (by decide)).1, (hlp 1 (by decide) (by decide)).2.1⟩
  have k2 : 0 ≤ L 2 ∧ L 2 + L 3 = q + 0 := ⟨(hlp 2 (by decide) (by decide)).1, (hlp 2 (by decide) (by decide)).2.1⟩
  have k3 : 0 ≤ L 3 ∧ L 3 + L 2 = 0 + q := ⟨(hlp 3 (by decide) (by decide)).1, (hlp 3 (by decide) (by decide)).2.1⟩
  have k4 : 0 ≤ L 4 ∧ L 4 + L 5 = r + 0 := ⟨(hlp 4 (by decide) (by decide)).1, (hlp 4 (by decide) (by decide)).2.1⟩
  have k5 : 0 ≤ L 5 ∧ L 5 + L 4 = 0 + r := ⟨(hlp 5 (by decide) (by decide)).1, (hlp 5 (by decide) (by decide)).2.1⟩
  have k6 : 0 ≤ L 6 ∧ L 6 + L 7 = u + 0 := ⟨(hlp 6 (by decide) (by decide)).1, (hlp 6 (by decide) (by decide)).2.1⟩
  have k7 : 0 ≤ L 7 ∧ L 7 + L 6 = 0 + u := ⟨(hlp 7 (by decide) (by decide)).1, (hlp 7 (by decide) (by decide)).2.1⟩
  have k8 : 0 ≤ L 8 ∧ L 8 + L 9 = v + 0 := ⟨(hlp 8 (by decide) (by decide)).1, (hlp 8 (by decide) (by decide)).2.1⟩
  have k9 : 0 ≤ L 9 ∧ L 9 + L 8 = 0 + v := ⟨(hlp 9 (by decide) (by decide)).1, (hlp 9 (by decide) (by decide)).2.1⟩
  have key : ∀ x, 0 ≤ x → x < 16 → x ≠ 0 → x ≠ 3 → fs_m (fs_pL p q r u v) (fs_pO x) < fs_m L (fs_pO x) → ∃ e, e ∈ fs_pO x ∧ 1 ≤ L e ∧ fs_k0 (E e) + 1 ≤ fs_k0 x := by
    refine fs_c16 ?_ ?_ ?_ ?_ ?_ ?_ ?_ ?_ ?_ ?_ ?_ ?_ ?_ ?_ ?_ ?_
    · exact fun a _ _ => absurd rfl a
    · intro _ _ h
      have h' : ((v + (r + (0 + 0))) : Int) < (L 8 + (L 4 + (L 1 + 0))) := h
      exact ⟨1, by decide, by omega, by rw [hE 1 (by decide) (by decide)]; decide⟩
    · intro _ _ h
      have h' : ((0 + (u + (0 + 0))) : Int) < (L 9 + (L 6 + (L 3 + 0))) := h
      by_cases c : 1 ≤ L 9
      · exact ⟨9, by decide, c, by rw [hE 9 (by decide) (by decide)]; decide⟩
      · exact ⟨3, by decide, by omega, by rw [hE 3 (by decide) (by decide)]; decide⟩
    · exact fun _ b _ => absurd rfl b
    · intro _ _ h
      have h' : (0 : Int) < 0 := h
      exact absurd h' (by omega)
    · intro _ _ h
      have h' : (0 : Int) < 0 := h
      exact absurd h' (by omega)
    · intro _ _ h
      have h' : (0 : Int) < 0 := h
      exact absurd h' (by omega)
    · intro _ _ h
      have h' : (0 : Int) < 0 := h
      exact absurd h' (by omega)
    · intro _ _ h
      have h' : (0 : Int) < 0 := h
      exact absurd h' (by omega)
    · intro _ _ h
      have h' : (0 : Int) < 0 := h
      exact absurd h' (by omega)
    · intro _ _ h
      have h' : (0 : Int) < 0 := h
      exact absurd h' (by omega)
    · intro _ _ h
      have h' : (0 : Int) < 0 := h
      exact absurd h' (by omega)
    · intro _ _ h
      have h' : (0 : Int) < 0 := h
      exact absurd h' (by omega)
    · intro _ _ h
      have h' : (0 : Int) < 0 := h
      exact absurd h' (by omega)
    · intro _ _ h
      have h' : (0 : Int) < 0 := h
      exact absurd h' (by omega)
    · intro _ _ h
      have h' : (0 : Int) < 0 := h
      exact absurd h' (by omega)
  exact key x
def fs_k1 : Int → Int := fs_tb [0, 17, 18, 16, 17, 17, 17, 17, 17, 17, 17, 17, 17, 17, 17, 17]
theorem fs_k1_cp (hp : 0 ≤ p ∧ p ≤ 99) (hq : 0 ≤ q ∧ q ≤ 99) (hr : 0 ≤ r ∧ r ≤ 99) (hu : 0 ≤ u ∧ u ≤ 99) (hv : 0 ≤ v ∧ v ≤ 99) {E : Int → Int} (hE : ∀ e, 0 ≤ e → e < 10 → E e = fs_pE e) : fs_cp 10 3 0 E (fun e => fs_pL p q r u v e + fs_pL p q r u v (fs_x e)) (fun x => fs_m (fs_pL p q r u v) (fs_pO x)) fs_k1 fs_pO := by
  refine ⟨rfl, rfl, fs_c16 ?_ ?_ ?_ ?_ ?_ ?_ ?_ ?_ ?_ ?_ ?_ ?_ ?_ ?_ ?_ ?_, fs_c16 ?_ ?_ ?_ ?_ ?_ ?_ ?_ ?_ ?_ ?_ ?_ ?_ ?_ ?_ ?_ ?_, fun L x hlp => ?_⟩
  · exact fun a b => absurd rfl b
  · exact fun _ _ => by decide
  · exact fun _ _ => by decide
  · exact fun a b => absurd rfl a
  · exact fun _ _ => by decide
  · exact fun _ _ => by decide
  · exact fun _ _ => by decide
  · exact fun _ _ => by decide
  · exact fun _ _ => by decide
  · exact fun _ _ => by decide
  · exact fun _ _ => by decide
  · exact fun _ _ => by decide
  · exact fun _ _ => by decide
  · exact fun _ _ => by decide
  · exact fun _ _ => by decide
  · exact fun _ _ => by decide
  · refine ⟨?_, by decide⟩
    show 0 ≤ ((q + (p + 0)) : Int)
    omega
  · refine ⟨?_, by decide⟩
    show 0 ≤ ((v + (r + (0 + 0))) : Int)
    omega
  · refine ⟨?_, by decide⟩
    show 0 ≤ ((0 + (u + (0 + 0))) : Int)
    omega
  · refine ⟨?_, by decide⟩
    show 0 ≤ ((0 + (0 + 0)) : Int)
    omega
  · refine ⟨?_, by decide⟩
    show 0 ≤ (0 : Int)
    omega
  · refine ⟨?_, by decide⟩
    show 0 ≤ (0 : Int)
    omega
  · refine ⟨?_, by decide⟩
    show 0 ≤ (0 : Int)
    omega
  · refine ⟨?_, by decide⟩
    show 0 ≤ (0 : Int)
    omega
  · refine ⟨?_, by decide⟩
    show 0 ≤ (0 : Int)
    omega
  · refine ⟨?_, by decide⟩
    show 0 ≤ (0 : Int)
    omega
  · refine ⟨?_, by decide⟩
    show 0 ≤ (0 : Int)
    omega
  · refine ⟨?_, by decide⟩
    show 0 ≤ (0 : Int)
    omega
  · refine ⟨?_, by decide⟩
    show 0 ≤ (0 : Int)
    omega
  · refine ⟨?_, by decide⟩
    show 0 ≤ (0 : Int)
    omega
  · refine ⟨?_, by decide⟩
    show 0 ≤ (0 : Int)
    omega
  · refine ⟨?_, by decide⟩
    show 0 ≤ (0 : Int)
    omega
  have k0 : 0 ≤ L 0 ∧ L 0 + L 1 = p + 0 := ⟨(hlp 0 (by decide) (by decide)).1, (hlp 0 (by decide) (by decide)).2.1⟩
  have k1 : 0 ≤ L 1 ∧ L 1 + L 0 = 0 + p := ⟨(hlp 1 (by decide) (by decide)).1, (hlp 1 (by decide) (by decide)).2.1⟩
  have k2 : 0 ≤ L 2 ∧ L 2 + L 3 = q + 0 := ⟨(hlp 2 (by decide) (by decide)).1, (hlp 2 (by decide) (by decide)).2.1⟩
  have k3 : 0 ≤ L 3 ∧ L 3 + L 2 = 0 + q := ⟨(hlp 3 (by decide) (by decide)).1, (hlp 3 (by decide) (by decide)).2.1⟩
  have k4 : 0 ≤ L 4 ∧ L 4 + L 5 = r + 0 := ⟨(hlp 4 (by decide) (by decide)).1, (hlp 4 (by decide) (by decide)).2.1⟩
  have k5 : 0 ≤ L 5 ∧ L 5 + L 4 = 0 + r := ⟨(hlp 5 (by decide) (by decide)).1, (hlp 5 (by decide) (by decide)).2.1⟩
  have k6 : 0 ≤ L 6 ∧ L 6 + L 7 = u + 0 := ⟨(hlp 6 (by decide) (by decide)).1, (hlp 6 (by decide) (by decide)).2.1⟩
  have k7 : 0 ≤ L 7 ∧ L 7 + L 6 = 0 + u := ⟨(hlp 7 (by decide) (by decide)).1, (hlp 7 (by decide) (by decide)).2.1⟩
  have k8 : 0 ≤ L 8 ∧ L 8 + L 9 = v + 0 := ⟨(hlp 8 (by decide) (by decide)).1, (hlp 8 (by decide) (by decide)).2.1⟩
  have k9 : 0 ≤ L 9 ∧ L 9 + L 8 = 0 + v := ⟨(hlp 9 (by decide) (by decide)).1, (hlp 9 (by decide) (by decide)).2.1⟩
  have key : ∀ x, 0 ≤ x → x < 16 → x ≠ 3 → x ≠ 0 → fs_m (fs_pL p q r u v) (fs_pO x) < fs_m L (fs_pO x) → ∃ e, e ∈ fs_pO x ∧ 1 ≤ L e ∧ fs_k1 (E e) + 1 ≤ fs_k1 x := by
    refine fs_c16 ?_ ?_ ?_ ?_ ?_ ?_ ?_ ?_ ?_ ?_ ?_ ?_ ?_ ?_ ?_ ?_
    · exact fun _ b _ => absurd rfl b
    · intro _ _ h
      have h' : ((v + (r + (0 + 0))) : Int) < (L 8 + (L 4 + (L 1 + 0))) := h
      exact ⟨1, by decide, by omega, by rw [hE 1 (by decide) (by decide)]; decide⟩
    · intro _ _ h
      have h' : ((0 + (u + (0 + 0))) : Int) < (L 9 + (L 6 + (L 3 + 0))) := h
      by_cases c : 1 ≤ L 9
      · exact ⟨9, by decide, c, by rw [hE 9 (by decide) (by decide)]; decide⟩
      · exact ⟨3, by decide, by omega, by rw [hE 3 (by decide) (by decide)]; decide⟩
    · exact fun a _ _ => absurd rfl a
    · intro _ _ h
      have h' : (0 : Int) < 0 := h
      exact absurd h' (by omega)
    · intro _ _ h
      have h' : (0 : Int) < 0 := h
      exact absurd h' (by omega)
    · intro _ _ h
      have h' : (0 : Int) < 0 := h
      exact absurd h' (by omega)
    · intro _ _ h
      have h' : (0 : Int) < 0 := h
      exact absurd h' (by omega)
    · intro _ _ h
      have h' : (0 : Int) < 0 := h
      exact absurd h' (by omega)
    · intro _ _ h
      have h' : (0 : Int) < 0 := h
      exact absurd h' (by omega)
    · intro _ _ h
      have h' : (0 : Int) < 0 := h
      exact absurd h' (by omega)
    · intro _ _ h
      have h' : (0 : Int) < 0 := h
      exact absurd h' (by omega)
    · intro _ _ h
      have h' : (0 : Int) < 0 := h
      exact absurd h' (by omega)
    · intro _ _ h
      have h' : (0 : Int) < 0 := h
      exact absurd h' (by omega)
    · intro _ _ h
      have h' : (0 : Int) < 0 := h
      exact absurd h' (by omega)
    · intro _ _ h
      have h' : (0 : Int) < 0 := h
      exact absurd h' (by omega)
  exact key x
def fs_k3 : Int → Int := fs_tb [16, 17, 19, 0, 17, 17, 17, 17, 17, 18, 20, 17, 18, 18, 18, 18]
theorem fs_k3_cp (hp : 0 ≤ p ∧ p ≤ 99) (hq : 0 ≤ q ∧ q ≤ 99) (hr : 0 ≤ r ∧ r ≤ 99) (hu : 0 ≤ u ∧ u ≤ 99) (hv : 0 ≤ v ∧ v ≤ 99) (hmu : 0 ≤ mu ∧ mu ≤ 99) {E : Int → Int} (hE : ∀ e, 0 ≤ e → e < 22 → E e = fs_tE e) : fs_cp 22 0 3 E (fun e => fs_tL p q r u v mu e + fs_tL p q r u v mu (fs_x e)) (fun x => fs_m (fs_tL p q r u v mu) (fs_tO x)) fs_k3 fs_tO := by
  refine ⟨rfl, rfl, fs_c16 ?_ ?_ ?_ ?_ ?_ ?_ ?_ ?_ ?_ ?_ ?_ ?_ ?_ ?_ ?_ ?_, fs_c16 ?_ ?_ ?_ ?_ ?_ ?_ ?_ ?_ ?_ ?_ ?_ ?_ ?_ ?_ ?_ ?_, fun L x hlp => ?_⟩
  · exact fun a b => absurd rfl a
  · exact fun _ _ => by decide
  · exact fun _ _ => by decide
  · exact fun a b => absurd rfl b
  · exact fun _ _ => by decide
  · exact fun _ _ => by decide
  · exact fun _ _ => by decide
  · exact fun _ _ => by decide
  · exact fun _ _ => by decide
  · exact fun _ _ => by decide
  · exact fun _ _ => by decide
  · exact fun _ _ => by decide
  · exact fun _ _ => by decide
  · exact fun _ _ => by decide
  · exact fun _ _ => by decide
  · exact fun _ _ => by decide
  · refine ⟨?_, by decide⟩
    show 0 ≤ ((q + (p + 0)) : Int)
    omega
  · refine ⟨?_, by decide⟩
    show 0 ≤ ((mu + (0 + 0)) : Int)
    omega
  · refine ⟨?_, by decide⟩
    show 0 ≤ ((mu + (0 + (0 + 0))) : Int)
    omega
  · refine ⟨?_, by decide⟩
    show 0 ≤ ((0 + (0 + 0)) : Int)
    omega
  · refine ⟨?_, by decide⟩
    show 0 ≤ ((mu + 0) : Int)
    omega
  · refine ⟨?_, by decide⟩
    show 0 ≤ ((mu + 0) : Int)
    omega
  · refine ⟨?_, by decide⟩
    show 0 ≤ ((mu + 0) : Int)
    omega
  · refine ⟨?_, by decide⟩
    show 0 ≤ ((mu + 0) : Int)
    omega
  · refine ⟨?_, by decide⟩
    show 0 ≤ (0 : Int)
    omega
  · refine ⟨?_, by decide⟩
    show 0 ≤ ((0 + (v + (r + 0))) : Int)
    omega
  · refine ⟨?_, by decide⟩
    show 0 ≤ ((0 + (u + 0)) : Int)
    omega
  · refine ⟨?_, by decide⟩
    show 0 ≤ (0 : Int)
    omega
  · refine ⟨?_, by decide⟩
    show 0 ≤ ((0 + 0) : Int)
    omega
  · refine ⟨?_, by decide⟩
    show 0 ≤ ((0 + 0) : Int)
    omega
  · refine ⟨?_, by decide⟩
    show 0 ≤ ((0 + 0) : Int)
    omega
  · refine ⟨?_, by decide⟩
    show 0 ≤ ((0 + 0) : Int)
    omega
  have k0 : 0 ≤ L 0 ∧ L 0 + L 1 = p + 0 := ⟨(hlp 0 (by decide) (by decide)).1, (hlp 0 (by decide) (by decide)).2.1⟩
  have k1 : 0 ≤ L 1 ∧ L 1 + L 0 = 0 + p := ⟨(hlp 1 (by decide) (by decide)).1, (hlp 1 (by decide) (by decide)).2.1⟩
  have k2 : 0 ≤ L 2 ∧ L 2 + L 3 = q + 0 := ⟨(hlp 2 (by decide) (by decide)).1, (hlp 2 (by decide) (by decide)).2.1⟩
  have k3 : 0 ≤ L 3 ∧ L 3 + L 2 = 0 + q := ⟨(hlp 3 (by decide) (by decide)).1, (hlp 3 (by decide) (by decide)).2.1⟩
  have k4 : 0 ≤ L 4 ∧ L 4 + L 5 = r + 0 := ⟨(hlp 4 (by decide) (by decide)).1, (hlp 4 (by decide) (by decide)).2.1⟩
  have k5 : 0 ≤ L 5 ∧ L 5 + L 4 = 0 + r := ⟨(hlp 5 (by decide) (by decide)).1, (hlp 5 (by decide) (by decide)).2.1⟩
  have k6 : 0 ≤ L 6 ∧ L 6 + L 7 = u + 0 := ⟨(hlp 6 (by decide) (by decide)).1, (hlp 6 (by decide) (by decide)).2.1⟩
  have k7 : 0 ≤ L 7 ∧ L 7 + L 6 = 0 + u := ⟨(hlp 7 (by decide) (by decide)).1, (hlp 7 (by decide) (by decide)).2.1⟩
  have k8 : 0 ≤ L 8 ∧ L 8 + L 9 = v + 0 := ⟨(hlp 8 (by decide) (by decide)).1, (hlp 8 (by decide) (by decide)).2.1⟩
  have k9 : 0 ≤ L 9 ∧ L 9 + L 8 = 0 + v := ⟨(hlp 9 (by decide) (by decide)).1, (hlp 9 (by decide) (by decide)).2.1⟩
  have k10 : 0 ≤ L 10 ∧ L 10 + L 11 = mu + 0 := ⟨(hlp 10 (by decide) (by decide)).1, (hlp 10 (by decide) (by decide)).2.1⟩
  have k11 : 0 ≤ L 11 ∧ L 11 + L 10 = 0 + mu := ⟨(hlp 11 (by decide) (by decide)).1, (hlp 11 (by decide) (by decide)).2.1⟩
  have k12 : 0 ≤ L 12 ∧ L 12 + L 13 = mu + 0 := ⟨(hlp 12 (by decide) (by decide)).1, (hlp 12 (by decide) (by decide)).2.1⟩
  have k13 : 0 ≤ L 13 ∧ L 13 + L 12 = 0 + mu := ⟨(hlp 13 (by decide) (by decide)).1, (hlp 13 (by decide) (by decide)).2.1⟩
  have k14 : 0 ≤ L 14 ∧ L 14 + L 15 = mu + 0 := ⟨(hlp 14 (by decide) (by decide)).1, (hlp 14 (by decide) (by decide)).2.1⟩
  have k15 : 0 ≤ L 15 ∧ L 15 + L 14 = 0 + mu := ⟨(hlp 15 (by decide) (by decide)).1, (hlp 15 (by decide) (by decide)).2.1⟩
  have k16 : 0 ≤ L 16 ∧ L 16 + L 17 = mu + 0 := ⟨(hlp 16 (by decide) (by decide)).1, (hlp 16 (by decide) (by decide)).2.1⟩
  have k17 : 0 ≤ L 17 ∧ L 17 + L 16 = 0 + mu := ⟨(hlp 17 (by decide) (by decide)).1, (hlp 17 (by decide) (by decide)).2.1⟩
  have k18 : 0 ≤ L 18 ∧ L 18 + L 19 = mu + 0 := ⟨(hlp 18 (by decide) (by decide)).1, (hlp 18 (by decide) (by decide)).2.1⟩
  have k19 : 0 ≤ L 19 ∧ L 19 + L 18 = 0 + mu := ⟨(hlp 19 (by decide) (by decide)).1, (hlp 19 (by decide) (by decide)).2.1⟩
  have k20 : 0 ≤ L 20 ∧ L 20 + L 21 = mu + 0 := ⟨(hlp 20 (by decide) (by decide)).1, (hlp 20 (by decide) (by decide)).2.1⟩
  have k21 : 0 ≤ L 21 ∧ L 21 + L 20 = 0 + mu := ⟨(hlp 21 (by decide) (by decide)).1, (hlp 21 (by decide) (by decide)).2.1⟩
  have key : ∀ x, 0 ≤ x → x < 16 → x ≠ 0 → x ≠ 3 → fs_m (fs_tL p q r u v mu) (fs_tO x) < fs_m L (fs_tO x) → ∃ e, e ∈ fs_tO x ∧ 1 ≤ L e ∧ fs_k3 (E e) + 1 ≤ fs_k3 x := by
    refine fs_c16 ?_ ?_ ?_ ?_ ?_ ?_ ?_ ?_ ?_ ?_ ?_ ?_ ?_ ?_ ?_ ?_
    · exact fun a _ _ => absurd rfl a
    · intro _ _ h
      have h' : ((mu + (0 + 0)) : Int) < (L 10 + (L 1 + 0)) := h
      exact ⟨1, by decide, by omega, by rw [hE 1 (by decide) (by decide)]; decide⟩
    · intro _ _ h
      have h' : ((mu + (0 + (0 + 0))) : Int) < (L 12 + (L 9 + (L 3 + 0))) := h
      by_cases c : 1 ≤ L 9
      · exact ⟨9, by decide, c, by rw [hE 9 (by decide) (by decide)]; decide⟩
      · exact ⟨3, by decide, by omega, by rw [hE 3 (by decide) (by decide)]; decide⟩
    · exact fun _ b _ => absurd rfl b
    · intro _ _ h
      have h' : ((mu + 0) : Int) < (L 14 + 0) := h
      exact absurd h' (by omega)
    · intro _ _ h
      have h' : ((mu + 0) : Int) < (L 16 + 0) := h
      exact absurd h' (by omega)
    · intro _ _ h
      have h' : ((mu + 0) : Int) < (L 18 + 0) := h
      exact absurd h' (by omega)
    · intro _ _ h
      have h' : ((mu + 0) : Int) < (L 20 + 0) := h
      exact absurd h' (by omega)
    · intro _ _ h
      have h' : (0 : Int) < 0 := h
      exact absurd h' (by omega)
    · intro _ _ h
      have h' : ((0 + (v + (r + 0))) : Int) < (L 11 + (L 8 + (L 4 + 0))) := h
      exact ⟨11, by decide, by omega, by rw [hE 11 (by decide) (by decide)]; decide⟩
    · intro _ _ h
      have h' : ((0 + (u + 0)) : Int) < (L 13 + (L 6 + 0)) := h
      exact ⟨13, by decide, by omega, by rw [hE 13 (by decide) (by decide)]; decide⟩
    · intro _ _ h
      have h' : (0 : Int) < 0 := h
      exact absurd h' (by omega)
    · intro _ _ h
      have h' : ((0 + 0) : Int) < (L 15 + 0) := h
      exact ⟨15, by decide, by omega, by rw [hE 15 (by decide) (by decide)]; decide⟩
    · intro _ _ h
      have h' : ((0 + 0) : Int) < (L 17 + 0) := h
      exact ⟨17, by decide, by omega, by rw [hE 17 (by decide) (by decide)]; decide⟩
    · intro _ _ h
      have h' : ((0 + 0) : Int) < (L 19 + 0) := h
      exact ⟨19, by decide, by omega, by rw [hE 19 (by decide) (by decide)]; decide⟩
    · intro _ _ h
      have h' : ((0 + 0) : Int) < (L 21 + 0) := h
      exact ⟨21, by decide, by omega, by rw [hE 21 (by decide) (by decide)]; decide⟩
  exact key x
theorem fs_f0 (hp : 0 ≤ p ∧ p ≤ 99) (hq : 0 ≤ q ∧ q ≤ 99) (hr : 0 ≤ r ∧ r ≤ 99) (hu : 0 ≤ u ∧ u ≤ 99) (hv : 0 ≤ v ∧ v ≤ 99) {E : Int → Int} (hE : ∀ e, 0 ≤ e → e < 10 → E e = fs_pE e) {fl : Int} (h : fs_mx 10 0 3 (fun e => fs_pL p q r u v e + fs_pL p q r u v (fs_x e)) E fs_pO (fun x => fs_m (fs_pL p q r u v) (fs_pO x)) fl) : fl ≤ p + q ∧ fl ≤ r + u ∧ fl ≤ p + u ∧ fl ≤ q + r + v ∧ (fl = p + q ∨ fl = r + u ∨ fl = p + u ∨ fl = q + r + v) := by
  obtain ⟨L, ⟨hlp, hs⟩, S, hS, hT, hcl⟩ := h
  have k0 : 0 ≤ L 0 ∧ L 0 + L 1 = p + 0 := ⟨(hlp 0 (by decide) (by decide)).1, (hlp 0 (by decide) (by decide)).2.1⟩
  have k1 : 0 ≤ L 1 ∧ L 1 + L 0 = 0 + p := ⟨(hlp 1 (by decide) (by decide)).1, (hlp 1 (by decide) (by decide)).2.1⟩
  have k2 : 0 ≤ L 2 ∧ L 2 + L 3 = q + 0 := ⟨(hlp 2 (by decide) (by decide)).1, (hlp 2 (by decide) (by decide)).2.1⟩
  have k3 : 0 ≤ L 3 ∧ L 3 + L 2 = 0 + q := ⟨(hlp 3 (by decide) (by decide)).1, (hlp 3 (by decide) (by decide)).2.1⟩
  have k4 : 0 ≤ L 4 ∧ L 4 + L 5 = r + 0 := ⟨(hlp 4 (by decide) (by decide)).1, (hlp 4 (by decide) (by decide)).2.1⟩
  have k5 : 0 ≤ L 5 ∧ L 5 + L 4 = 0 + r := ⟨(hlp 5 (by decide) (by decide)).1, (hlp 5 (by decide) (by decide)).2.1⟩
  have k6 : 0 ≤ L 6 ∧ L 6 + L 7 = u + 0 := ⟨(hlp 6 (by decide) (by decide)).1, (hlp 6 (by decide) (by decide)).2.1⟩
  have k7 : 0 ≤ L 7 ∧ L 7 + L 6 = 0 + u := ⟨(hlp 7 (by decide) (by decide)).1, (hlp 7 (by decide) (by decide)).2.1⟩
  have k8 : 0 ≤ L 8 ∧ L 8 + L 9 = v + 0 := ⟨(hlp 8 (by decide) (by decide)).1, (hlp 8 (by decide) (by decide)).2.1⟩
  have k9 : 0 ≤ L 9 ∧ L 9 + L 8 = 0 + v := ⟨(hlp 9 (by decide) (by decide)).1, (hlp 9 (by decide) (by decide)).2.1⟩
  have m0 : (L 2 + (L 0 + 0)) = (q + (p + 0)) - fl := hs 0 (by decide) (by decide) (by decide)
  have m1 : (L 8 + (L 4 + (L 1 + 0))) = (v + (r + (0 + 0))) - 0 := hs 1 (by decide) (by decide) (by decide)
  have m2 : (L 9 + (L 6 + (L 3 + 0))) = (0 + (u + (0 + 0))) - 0 := hs 2 (by decide) (by decide) (by decide)
  have c0 : S 0 → 1 ≤ L 0 → S 1 := fun a b => by
    have z := hcl 0 (by decide) (by decide) a 0 (by decide) b
    rw [hE 0 (by decide) (by decide)] at z
    exact z
  have c2 : S 0 → 1 ≤ L 2 → S 2 := fun a b => by
    have z := hcl 0 (by decide) (by decide) a 2 (by decide) b
    rw [hE 2 (by decide) (by decide)] at z
    exact z
  have c4 : S 1 → 1 ≤ L 4 → S 3 := fun a b => by
    have z := hcl 1 (by decide) (by decide) a 4 (by decide) b
    rw [hE 4 (by decide) (by decide)] at z
    exact z
  have c6 : S 2 → 1 ≤ L 6 → S 3 := fun a b => by
    have z := hcl 2 (by decide) (by decide) a 6 (by decide) b
    rw [hE 6 (by decide) (by decide)] at z
    exact z
  have c8 : S 1 → 1 ≤ L 8 → S 2 := fun a b => by
    have z := hcl 1 (by decide) (by decide) a 8 (by decide) b
    rw [hE 8 (by decide) (by decide)] at z
    exact z
  have c9 : S 2 → 1 ≤ L 9 → S 1 := fun a b => by
    have z := hcl 2 (by decide) (by decide) a 9 (by decide) b
    rw [hE 9 (by decide) (by decide)] at z
    exact z
  by_cases g1 : S 1
  · by_cases g2 : S 2
    · have z4 : ¬ 1 ≤ L 4 := fun z => hT (c4 g1 z)
      have z6 : ¬ 1 ≤ L 6 := fun z => hT (c6 g2 z)
      omega
    · have z2 : ¬ 1 ≤ L 2 := fun z => g2 (c2 hS z)
      have z4 : ¬ 1 ≤ L 4 := fun z => hT (c4 g1 z)
      have z8 : ¬ 1 ≤ L 8 := fun z => g2 (c8 g1 z)
      omega
  · by_cases g2 : S 2
    · have z0 : ¬ 1 ≤ L 0 := fun z => g1 (c0 hS z)
      have z6 : ¬ 1 ≤ L 6 := fun z => hT (c6 g2 z)
      have z9 : ¬ 1 ≤ L 9 := fun z => g1 (c9 g2 z)
      omega
    · have z0 : ¬ 1 ≤ L 0 := fun z => g1 (c0 hS z)
      have z2 : ¬ 1 ≤ L 2 := fun z => g2 (c2 hS z)
      omega
theorem fs_f1 (hp : 0 ≤ p ∧ p ≤ 99) (hq : 0 ≤ q ∧ q ≤ 99) (hr : 0 ≤ r ∧ r ≤ 99) (hu : 0 ≤ u ∧ u ≤ 99) (hv : 0 ≤ v ∧ v ≤ 99) {E : Int → Int} (hE : ∀ e, 0 ≤ e → e < 10 → E e = fs_pE e) {fl : Int} (h : fs_mx 10 3 0 (fun e => fs_pL p q r u v e + fs_pL p q r u v (fs_x e)) E fs_pO (fun x => fs_m (fs_pL p q r u v) (fs_pO x)) fl) : fl = 0 := by
  obtain ⟨L, ⟨hlp, hs⟩, S, hS, hT, hcl⟩ := h
  have k0 : 0 ≤ L 0 ∧ L 0 + L 1 = p + 0 := ⟨(hlp 0 (by decide) (by decide)).1, (hlp 0 (by decide) (by decide)).2.1⟩
  have k1 : 0 ≤ L 1 ∧ L 1 + L 0 = 0 + p := ⟨(hlp 1 (by decide) (by decide)).1, (hlp 1 (by decide) (by decide)).2.1⟩
  have k2 : 0 ≤ L 2 ∧ L 2 + L 3 = q + 0 := ⟨(hlp 2 (by decide) (by decide)).1, (hlp 2 (by decide) (by decide)).2.1⟩
  have k3 : 0 ≤ L 3 ∧ L 3 + L 2 = 0 + q := ⟨(hlp 3 (by decide) (by decide)).1, (hlp 3 (by decide) (by decide)).2.1⟩
  have k4 : 0 ≤ L 4 ∧ L 4 + L 5 = r + 0 := ⟨(hlp 4 (by decide) (by decide)).1, (hlp 4 (by decide) (by decide)).2.1⟩
  have k5 : 0 ≤ L 5 ∧ L 5 + L 4 = 0 + r := ⟨(hlp 5 (by decide) (by decide)).1, (hlp 5 (by decide) (by decide)).2.1⟩
  have k6 : 0 ≤ L 6 ∧ L 6 + L 7 = u + 0 := ⟨(hlp 6 (by decide) (by decide)).1, (hlp 6 (by decide) (by decide)).2.1⟩
  have k7 : 0 ≤ L 7 ∧ L 7 + L 6 = 0 + u := ⟨(hlp 7 (by decide) (by decide)).1, (hlp 7 (by decide) (by decide)).2.1⟩
  have k8 : 0 ≤ L 8 ∧ L 8 + L 9 = v + 0 := ⟨(hlp 8 (by decide) (by decide)).1, (hlp 8 (by decide) (by decide)).2.1⟩
  have k9 : 0 ≤ L 9 ∧ L 9 + L 8 = 0 + v := ⟨(hlp 9 (by decide) (by decide)).1, (hlp 9 (by decide) (by decide)).2.1⟩
  have m3 : (L 7 + (L 5 + 0)) = (0 + (0 + 0)) - fl := hs 3 (by decide) (by decide) (by decide)
  have m1 : (L 8 + (L 4 + (L 1 + 0))) = (v + (r + (0 + 0))) - 0 := hs 1 (by decide) (by decide) (by decide)
  have m2 : (L 9 + (L 6 + (L 3 + 0))) = (0 + (u + (0 + 0))) - 0 := hs 2 (by decide) (by decide) (by decide)
  have c1 : S 1 → 1 ≤ L 1 → S 0 := fun a b => by
    have z := hcl 1 (by decide) (by decide) a 1 (by decide) b
    rw [hE 1 (by decide) (by decide)] at z
    exact z
  have c3 : S 2 → 1 ≤ L 3 → S 0 := fun a b => by
    have z := hcl 2 (by decide) (by decide) a 3 (by decide) b
    rw [hE 3 (by decide) (by decide)] at z
    exact z
  have c5 : S 3 → 1 ≤ L 5 → S 1 := fun a b => by
    have z := hcl 3 (by decide) (by decide) a 5 (by decide) b
    rw [hE 5 (by decide) (by decide)] at z
    exact z
  have c7 : S 3 → 1 ≤ L 7 → S 2 := fun a b => by
    have z := hcl 3 (by decide) (by decide) a 7 (by decide) b
    rw [hE 7 (by decide) (by decide)] at z
    exact z
  have c8 : S 1 → 1 ≤ L 8 → S 2 := fun a b => by
    have z := hcl 1 (by decide) (by decide) a 8 (by decide) b
    rw [hE 8 (by decide) (by decide)] at z
    exact z
  have c9 : S 2 → 1 ≤ L 9 → S 1 := fun a b => by
    have z := hcl 2 (by decide) (by decide) a 9 (by decide) b
    rw [hE 9 (by decide) (by decide)] at z
    exact z
  by_cases g1 : S 1
  · by_cases g2 : S 2
    · have z1 : ¬ 1 ≤ L 1 := fun z => hT (c1 g1 z)
      have z3 : ¬ 1 ≤ L 3 := fun z => hT (c3 g2 z)
      omega
    · have z1 : ¬ 1 ≤ L 1 := fun z => hT (c1 g1 z)
      have z7 : ¬ 1 ≤ L 7 := fun z => g2 (c7 hS z)
      have z8 : ¬ 1 ≤ L 8 := fun z => g2 (c8 g1 z)
      omega
  · by_cases g2 : S 2
    · have z3 : ¬ 1 ≤ L 3 := fun z => hT (c3 g2 z)
      have z5 : ¬ 1 ≤ L 5 := fun z => g1 (c5 hS z)
      have z9 : ¬ 1 ≤ L 9 := fun z => g1 (c9 g2 z)
      omega
    · have z5 : ¬ 1 ≤ L 5 := fun z => g1 (c5 hS z)
      have z7 : ¬ 1 ≤ L 7 := fun z => g2 (c7 hS z)
      omega
theorem fs_f3 (hp : 0 ≤ p ∧ p ≤ 99) (hq : 0 ≤ q ∧ q ≤ 99) (hr : 0 ≤ r ∧ r ≤ 99) (hu : 0 ≤ u ∧ u ≤ 99) (hv : 0 ≤ v ∧ v ≤ 99) (hmu : 0 ≤ mu ∧ mu ≤ 99) {E : Int → Int} (hE : ∀ e, 0 ≤ e → e < 22 → E e = fs_tE e) {fl : Int} (h : fs_mx 22 0 3 (fun e => fs_tL p q r u v mu e + fs_tL p q r u v mu (fs_x e)) E fs_tO (fun x => fs_m (fs_tL p q r u v mu) (fs_tO x)) fl) {z1 z2 : Int} (hz1 : z1 ≤ p ∧ z1 ≤ mu ∧ (z1 = p ∨ z1 = mu)) (hz2 : z2 ≤ u ∧ z2 ≤ mu ∧ (z2 = u ∨ z2 = mu)) : fl ≤ z1 + q ∧ fl ≤ r + z2 ∧ fl ≤ z1 + z2 ∧ fl ≤ q + r + v ∧ (fl = z1 + q ∨ fl = r + z2 ∨ fl = z1 + z2 ∨ fl = q + r + v) := by
  obtain ⟨L, ⟨hlp, hs⟩, S, hS, hT, hcl⟩ := h
  have k0 : 0 ≤ L 0 ∧ L 0 + L 1 = p + 0 := ⟨(hlp 0 (by decide) (by decide)).1, (hlp 0 (by decide) (by decide)).2.1⟩
  have k1 : 0 ≤ L 1 ∧ L 1 + L 0 = 0 + p := ⟨(hlp 1 (by decide) (by decide)).1, (hlp 1 (by decide) (by decide)).2.1⟩
  have k2 : 0 ≤ L 2 ∧ L 2 + L 3 = q + 0 := ⟨(hlp 2 (by decide) (by decide)).1, (hlp 2 (by decide) (by decide)).2.1⟩
  have k3 : 0 ≤ L 3 ∧ L 3 + L 2 = 0 + q := ⟨(hlp 3 (by decide) (by decide)).1, (hlp 3 (by decide) (by decide)).2.1⟩
  have k4 : 0 ≤ L 4 ∧ L 4 + L 5 = r + 0 := ⟨(hlp 4 (by decide) (by decide)).1, (hlp 4 (by decide) (by decide)).2.1⟩
  have k5 : 0 ≤ L 5 ∧ L 5 + L 4 = 0 + r := ⟨(hlp 5 (by decide) (by decide)).1, (hlp 5 (by decide) (by decide)).2.1⟩
  have k6 : 0 ≤ L 6 ∧ L 6 + L 7 = u + 0 := ⟨(hlp 6 (by decide) (by decide)).1, (hlp 6 (by decide) (by decide)).2.1⟩
  have k7 : 0 ≤ L 7 ∧ L 7 + L 6 = 0 + u := ⟨(hlp 7 (by decide) (by decide)).1, (hlp 7 (by decide) (by decide)).2.1⟩
  have k8 : 0 ≤ L 8 ∧ L 8 + L 9 = v + 0 := ⟨(hlp 8 (by decide) (by decide)).1, (hlp 8 (by decide) (by decide)).2.1⟩
  have k9 : 0 ≤ L 9 ∧ L 9 + L 8 = 0 + v := ⟨(hlp 9 (by decide) (by decide)).1, (hlp 9 (by decide) (by decide)).2.1⟩
  have k10 : 0 ≤ L 10 ∧ L 10 + L 11 = mu + 0 := ⟨(hlp 10 (by decide) (by decide)).1, (hlp 10 (by decide) (by decide)).2.1⟩
  have k11 : 0 ≤ L 11 ∧ L 11 + L 10 = 0 + mu := ⟨(hlp 11 (by decide) (by decide)).1, (hlp 11 (by decide) (by decide)).2.1⟩
  have k12 : 0 ≤ L 12 ∧ L 12 + L 13 = mu + 0 := ⟨(hlp 12 (by decide) (by decide)).1, (hlp 12 (by decide) (by decide)).2.1⟩
  have k13 : 0 ≤ L 13 ∧ L 13 + L 12 = 0 + mu := ⟨(hlp 13 (by decide) (by decide)).1, (hlp 13 (by decide) (by decide)).2.1⟩
  have m0 : (L 2 + (L 0 + 0)) = (q + (p + 0)) - fl := hs 0 (by decide) (by decide) (by decide)
  have m1 : (L 10 + (L 1 + 0)) = (mu + (0 + 0)) - 0 := hs 1 (by decide) (by decide) (by decide)
  have m2 : (L 12 + (L 9 + (L 3 + 0))) = (mu + (0 + (0 + 0))) - 0 := hs 2 (by decide) (by decide) (by decide)
  have m9 : (L 11 + (L 8 + (L 4 + 0))) = (0 + (v + (r + 0))) - 0 := hs 9 (by decide) (by decide) (by decide)
  have m10 : (L 13 + (L 6 + 0)) = (0 + (u + 0)) - 0 := hs 10 (by decide) (by decide) (by decide)
  have c0 : S 0 → 1 ≤ L 0 → S 1 := fun a b => by
    have z := hcl 0 (by decide) (by decide) a 0 (by decide) b
    rw [hE 0 (by decide) (by decide)] at z
    exact z
  have c2 : S 0 → 1 ≤ L 2 → S 2 := fun a b => by
    have z := hcl 0 (by decide) (by decide) a 2 (by decide) b
    rw [hE 2 (by decide) (by decide)] at z
    exact z
  have c4 : S 9 → 1 ≤ L 4 → S 3 := fun a b => by
    have z := hcl 9 (by decide) (by decide) a 4 (by decide) b
    rw [hE 4 (by decide) (by decide)] at z
    exact z
  have c6 : S 10 → 1 ≤ L 6 → S 3 := fun a b => by
    have z := hcl 10 (by decide) (by decide) a 6 (by decide) b
    rw [hE 6 (by decide) (by decide)] at z
    exact z
  have c8 : S 9 → 1 ≤ L 8 → S 2 := fun a b => by
    have z := hcl 9 (by decide) (by decide) a 8 (by decide) b
    rw [hE 8 (by decide) (by decide)] at z
    exact z
  have c9 : S 2 → 1 ≤ L 9 → S 9 := fun a b => by
    have z := hcl 2 (by decide) (by decide) a 9 (by decide) b
    rw [hE 9 (by decide) (by decide)] at z
    exact z
  have c10 : S 1 → 1 ≤ L 10 → S 9 := fun a b => by
    have z := hcl 1 (by decide) (by decide) a 10 (by decide) b
    rw [hE 10 (by decide) (by decide)] at z
    exact z
  have c11 : S 9 → 1 ≤ L 11 → S 1 := fun a b => by
    have z := hcl 9 (by decide) (by decide) a 11 (by decide) b
    rw [hE 11 (by decide) (by decide)] at z
    exact z
  have c12 : S 2 → 1 ≤ L 12 → S 10 := fun a b => by
    have z := hcl 2 (by decide) (by decide) a 12 (by decide) b
    rw [hE 12 (by decide) (by decide)] at z
    exact z
  have c13 : S 10 → 1 ≤ L 13 → S 2 := fun a b => by
    have z := hcl 10 (by decide) (by decide) a 13 (by decide) b
    rw [hE 13 (by decide) (by decide)] at z
    exact z
  by_cases g1 : S 1
  · by_cases g2 : S 2
    · by_cases g9 : S 9
      · by_cases g10 : S 10
        · have z4 : ¬ 1 ≤ L 4 := fun z => hT (c4 g9 z)
          have z6 : ¬ 1 ≤ L 6 := fun z => hT (c6 g10 z)
          omega
        · have z4 : ¬ 1 ≤ L 4 := fun z => hT (c4 g9 z)
          have z12 : ¬ 1 ≤ L 12 := fun z => g10 (c12 g2 z)
          omega
      · by_cases g10 : S 10
        · have z6 : ¬ 1 ≤ L 6 := fun z => hT (c6 g10 z)
          have z9 : ¬ 1 ≤ L 9 := fun z => g9 (c9 g2 z)
          have z10 : ¬ 1 ≤ L 10 := fun z => g9 (c10 g1 z)
          omega
        · have z9 : ¬ 1 ≤ L 9 := fun z => g9 (c9 g2 z)
          have z10 : ¬ 1 ≤ L 10 := fun z => g9 (c10 g1 z)
          have z12 : ¬ 1 ≤ L 12 := fun z => g10 (c12 g2 z)
          omega
    · by_cases g9 : S 9
      · by_cases g10 : S 10
        · have z2 : ¬ 1 ≤ L 2 := fun z => g2 (c2 hS z)
          have z4 : ¬ 1 ≤ L 4 := fun z => hT (c4 g9 z)
          have z6 : ¬ 1 ≤ L 6 := fun z => hT (c6 g10 z)
          have z8 : ¬ 1 ≤ L 8 := fun z => g2 (c8 g9 z)
          have z13 : ¬ 1 ≤ L 13 := fun z => g2 (c13 g10 z)
          omega
        · have z2 : ¬ 1 ≤ L 2 := fun z => g2 (c2 hS z)
          have z4 : ¬ 1 ≤ L 4 := fun z => hT (c4 g9 z)
          have z8 : ¬ 1 ≤ L 8 := fun z => g2 (c8 g9 z)
          omega
      · by_cases g10 : S 10
        · have z2 : ¬ 1 ≤ L 2 := fun z => g2 (c2 hS z)
          have z6 : ¬ 1 ≤ L 6 := fun z => hT (c6 g10 z)
          have z10 : ¬ 1 ≤ L 10 := fun z => g9 (c10 g1 z)
          have z13 : ¬ 1 ≤ L 13 := fun z => g2 (c13 g10 z)
          omega
        · have z2 : ¬ 1 ≤ L 2 := fun z => g2 (c2 hS z)
          have z10 : ¬ 1 ≤ L 10 := fun z => g9 (c10 g1 z)
          omega
  · by_cases g2 : S 2
    · by_cases g9 : S 9
      · by_cases g10 : S 10
        · have z0 : ¬ 1 ≤ L 0 := fun z => g1 (c0 hS z)
          have z4 : ¬ 1 ≤ L 4 := fun z => hT (c4 g9 z)
          have z6 : ¬ 1 ≤ L 6 := fun z => hT (c6 g10 z)
          have z11 : ¬ 1 ≤ L 11 := fun z => g1 (c11 g9 z)
          omega
        · have z0 : ¬ 1 ≤ L 0 := fun z => g1 (c0 hS z)
          have z4 : ¬ 1 ≤ L 4 := fun z => hT (c4 g9 z)
          have z11 : ¬ 1 ≤ L 11 := fun z => g1 (c11 g9 z)
          have z12 : ¬ 1 ≤ L 12 := fun z => g10 (c12 g2 z)
          omega
      · by_cases g10 : S 10
        · have z0 : ¬ 1 ≤ L 0 := fun z => g1 (c0 hS z)
          have z6 : ¬ 1 ≤ L 6 := fun z => hT (c6 g10 z)
          have z9 : ¬ 1 ≤ L 9 := fun z => g9 (c9 g2 z)
          omega
        · have z0 : ¬ 1 ≤ L 0 := fun z => g1 (c0 hS z)
          have z9 : ¬ 1 ≤ L 9 := fun z => g9 (c9 g2 z)
          have z12 : ¬ 1 ≤ L 12 := fun z => g10 (c12 g2 z)
          omega
    · by_cases g9 : S 9
      · by_cases g10 : S 10
        · have z0 : ¬ 1 ≤ L 0 := fun z => g1 (c0 hS z)
          have z2 : ¬ 1 ≤ L 2 := fun z => g2 (c2 hS z)
          have z4 : ¬ 1 ≤ L 4 := fun z => hT (c4 g9 z)
          have z6 : ¬ 1 ≤ L 6 := fun z => hT (c6 g10 z)
          have z8 : ¬ 1 ≤ L 8 := fun z => g2 (c8 g9 z)
          have z11 : ¬ 1 ≤ L 11 := fun z => g1 (c11 g9 z)
          have z13 : ¬ 1 ≤ L 13 := fun z => g2 (c13 g10 z)
          omega
        · have z0 : ¬ 1 ≤ L 0 := fun z => g1 (c0 hS z)
          have z2 : ¬ 1 ≤ L 2 := fun z => g2 (c2 hS z)
          have z4 : ¬ 1 ≤ L 4 := fun z => hT (c4 g9 z)
          have z8 : ¬ 1 ≤ L 8 := fun z => g2 (c8 g9 z)
          have z11 : ¬ 1 ≤ L 11 := fun z => g1 (c11 g9 z)
          omega
      · by_cases g10 : S 10
        · have z0 : ¬ 1 ≤ L 0 := fun z => g1 (c0 hS z)
          have z2 : ¬ 1 ≤ L 2 := fun z => g2 (c2 hS z)
          have z6 : ¬ 1 ≤ L 6 := fun z => hT (c6 g10 z)
          have z13 : ¬ 1 ≤ L 13 := fun z => g2 (c13 g10 z)
          omega
        · have z0 : ¬ 1 ≤ L 0 := fun z => g1 (c0 hS z)
          have z2 : ¬ 1 ≤ L 2 := fun z => g2 (c2 hS z)
          omega
end
end
section
/-! part 21: lay, solve, value, throttled (printed by mk21.py) -/
theorem fs_bit31 : ∀ k : Int, 5 ≤ k → k < 20 → ((fs_i 31 >>> (fs_i k &&& 31)) &&& 1) = 0 := by
  have key : ∀ k : Fin 20, 5 ≤ k.val → ((fs_i 31 >>> (fs_i (k.val : Int) &&& 31)) &&& 1) = 0 := by decide +kernel
  intro k k0 k1
  have w := key ⟨k.toNat, by omega⟩ (by dsimp only; omega)
  dsimp only at w
  rw [Int.toNat_of_nonneg (by omega)] at w
  exact w
section
variable {p q r u v mu : Int} {A1 A2 A3 : Int → Int} {pr so sk ed fw qf qs oc : Int32} {a1 a2 a3 a4 a5 a6 a7 a8 a9 a10 a11 a12 a13 a14 a15 a16 a17 a18 a19 : Nat → Int32}
/-- the five arcs of the law -/
def fs_arcs (p q r u v : Int) (A1 A2 A3 : Int → Int) : Prop :=
  (A1 0 = 0 ∧ A1 1 = 0 ∧ A1 2 = 1 ∧ A1 3 = 2 ∧ A1 4 = 1) ∧ (A2 0 = 1 ∧ A2 1 = 2 ∧ A2 2 = 3 ∧ A2 3 = 3 ∧ A2 4 = 2) ∧ (A3 0 = p ∧ A3 1 = q ∧ A3 2 = r ∧ A3 3 = u ∧ A3 4 = v) ∧
  (0 ≤ p ∧ p ≤ 99) ∧ (0 ≤ q ∧ q ≤ 99) ∧ (0 ≤ r ∧ r ≤ 99) ∧ (0 ≤ u ∧ u ≤ 99) ∧ (0 ≤ v ∧ v ≤ 99)
theorem fs_lay0 {post : St2 → Prop} {E0 L0 F0 N0 : Int → Int} {s t : Int} (sb : 0 ≤ s ∧ s < 8) (tb : 0 ≤ t ∧ t < 8) (hA : fs_arcs p q r u v A1 A2 A3)
    (H : ∀ E L F N, fs_net 10 E F N fs_pO → (∀ e, 0 ≤ e → e < 10 → E e = fs_pE e) → (∀ e, 0 ≤ e → e < 10 → L e = fs_pL p q r u v e) → post (fs_i 31, fs_i s, fs_i t, fs_i 10, fs_i 0, qf, qs, oc, fs_a A1, fs_a A2, fs_a A3, fs_a E, fs_a L, fs_a F, fs_a N, a8, a9, a10, a11, a12, a13, a14, a15, a16, a17, a18, a19)) :
    wpX_lay post (fs_i 31, so, sk, ed, fw, qf, qs, oc, fs_a A1, fs_a A2, fs_a A3, fs_a E0, fs_a L0, fs_a F0, fs_a N0, a8, a9, a10, a11, a12, a13, a14, a15, a16, a17, a18, a19) (fs_i 0) (fs_i s) (fs_i t) (fs_i mu) := by
  have hb := hA.2.2.2
  unfold wpX_lay
  dsimp only
  refine ⟨17, fs_ly_23 (fun F hF => ?_) 17 0 F0 (by omega) (by omega) (fun x x0 x1 => by omega) (by omega)⟩
  have e0 := fs_fa (W := fun _ => -1) hF
  rw [e0]
  refine ⟨21, ?_⟩
  refine fs_ly_s (k := 0) (d := 0) (d1 := 1) (d2 := 2) (a' := 0) (va := -1) (vb := -1) 1 rfl (by omega) (Or.inl rfl) (by omega) (by omega) (by decide) hA.1.1 hA.2.1.1 hA.2.2.1.1 (by omega) rfl (by omega) (by omega) (by omega) (by decide) rfl rfl (by omega) (by omega) rfl rfl (by omega) (by omega) ?_
  refine fs_ly_s (k := 1) (d := 2) (d1 := 3) (d2 := 4) (a' := 0) (va := 0) (vb := -1) 2 rfl (by omega) (Or.inl rfl) (by omega) (by omega) (by decide) hA.1.2.1 hA.2.1.2.1 hA.2.2.1.2.1 (by omega) rfl (by omega) (by omega) (by omega) (by decide) rfl rfl (by omega) (by omega) rfl rfl (by omega) (by omega) ?_
  refine fs_ly_s (k := 2) (d := 4) (d1 := 5) (d2 := 6) (a' := 1) (va := 1) (vb := -1) 3 rfl (by omega) (Or.inl rfl) (by omega) (by omega) (by decide) hA.1.2.2.1 hA.2.1.2.2.1 hA.2.2.1.2.2.1 (by omega) rfl (by omega) (by omega) (by omega) (by decide) rfl rfl (by omega) (by omega) rfl rfl (by omega) (by omega) ?_
  refine fs_ly_s (k := 3) (d := 6) (d1 := 7) (d2 := 8) (a' := 2) (va := 3) (vb := 5) 4 rfl (by omega) (Or.inl rfl) (by omega) (by omega) (by decide) hA.1.2.2.2.1 hA.2.1.2.2.2.1 hA.2.2.1.2.2.2.1 (by omega) rfl (by omega) (by omega) (by omega) (by decide) rfl rfl (by omega) (by omega) rfl rfl (by omega) (by omega) ?_
  refine fs_ly_s (k := 4) (d := 8) (d1 := 9) (d2 := 10) (a' := 1) (va := 4) (vb := 6) 5 rfl (by omega) (Or.inl rfl) (by omega) (by omega) (by decide) hA.1.2.2.2.2 hA.2.1.2.2.2.2 hA.2.2.1.2.2.2.2 (by omega) rfl (by omega) (by omega) (by omega) (by decide) rfl rfl (by omega) (by omega) rfl rfl (by omega) (by omega) ?_
  refine fs_ly_e (k0 := 5) (by omega) fs_bit31 ⟨1, ?_⟩ 16 5 (by omega) (by omega) (by omega)
  unfold wX_lay_137
  refine fs_le 8 0 (fun g => absurd g (by omega)) (fun _ => fs_lt 0 2 (fun _ => ?_) (fun g => absurd g (by omega)))
  refine H _ _ _ _ (fs_net_ag fs_pnet (fs_c10 ⟨rfl, rfl⟩ ⟨rfl, rfl⟩ ⟨rfl, rfl⟩ ⟨rfl, rfl⟩ ⟨rfl, rfl⟩ ⟨rfl, rfl⟩ ⟨rfl, rfl⟩ ⟨rfl, rfl⟩ ⟨rfl, rfl⟩ ⟨rfl, rfl⟩) (fs_c16 rfl rfl rfl rfl rfl rfl rfl rfl rfl rfl rfl rfl rfl rfl rfl rfl)) (fs_c10 rfl rfl rfl rfl rfl rfl rfl rfl rfl rfl) (fs_c10 rfl rfl rfl rfl rfl rfl rfl rfl rfl rfl)
theorem fs_lay3 {post : St2 → Prop} {E0 L0 F0 N0 : Int → Int} (hA : fs_arcs p q r u v A1 A2 A3) (hmu : 0 ≤ mu ∧ mu ≤ 99)
    (H : ∀ E L F N, fs_net 22 E F N fs_tO → (∀ e, 0 ≤ e → e < 22 → E e = fs_tE e) → (∀ e, 0 ≤ e → e < 22 → L e = fs_tL p q r u v mu e) → post (fs_i 31, fs_i 0, fs_i 3, fs_i 22, fs_i 0, qf, qs, oc, fs_a A1, fs_a A2, fs_a A3, fs_a E, fs_a L, fs_a F, fs_a N, a8, a9, a10, a11, a12, a13, a14, a15, a16, a17, a18, a19)) :
    wpX_lay post (fs_i 31, so, sk, ed, fw, qf, qs, oc, fs_a A1, fs_a A2, fs_a A3, fs_a E0, fs_a L0, fs_a F0, fs_a N0, a8, a9, a10, a11, a12, a13, a14, a15, a16, a17, a18, a19) (fs_i 3) (fs_i 0) (fs_i 3) (fs_i mu) := by
  have hb := hA.2.2.2
  unfold wpX_lay
  dsimp only
  refine ⟨17, fs_ly_23 (fun F hF => ?_) 17 0 F0 (by omega) (by omega) (fun x x0 x1 => by omega) (by omega)⟩
  have e0 := fs_fa (W := fun _ => -1) hF
  rw [e0]
  refine ⟨21, ?_⟩
  refine fs_ly_s (k := 0) (d := 0) (d1 := 1) (d2 := 2) (a' := 0) (va := -1) (vb := -1) 1 rfl (by omega) (Or.inr rfl) (by omega) (by omega) (by decide) hA.1.1 hA.2.1.1 hA.2.2.1.1 (by omega) rfl (by omega) (by omega) (by omega) (by decide) rfl rfl (by omega) (by omega) rfl rfl (by omega) (by omega) ?_
  refine fs_ly_s (k := 1) (d := 2) (d1 := 3) (d2 := 4) (a' := 0) (va := 0) (vb := -1) 2 rfl (by omega) (Or.inr rfl) (by omega) (by omega) (by decide) hA.1.2.1 hA.2.1.2.1 hA.2.2.1.2.1 (by omega) rfl (by omega) (by omega) (by omega) (by decide) rfl rfl (by omega) (by omega) rfl rfl (by omega) (by omega) ?_
  refine fs_ly_s (k := 2) (d := 4) (d1 := 5) (d2 := 6) (a' := 9) (va := -1) (vb := -1) 3 rfl (by omega) (Or.inr rfl) (by omega) (by omega) (by decide) hA.1.2.2.1 hA.2.1.2.2.1 hA.2.2.1.2.2.1 (by omega) rfl (by omega) (by omega) (by omega) (by decide) rfl rfl (by omega) (by omega) rfl rfl (by omega) (by omega) ?_
  refine fs_ly_s (k := 3) (d := 6) (d1 := 7) (d2 := 8) (a' := 10) (va := -1) (vb := 5) 4 rfl (by omega) (Or.inr rfl) (by omega) (by omega) (by decide) hA.1.2.2.2.1 hA.2.1.2.2.2.1 hA.2.2.1.2.2.2.1 (by omega) rfl (by omega) (by omega) (by omega) (by decide) rfl rfl (by omega) (by omega) rfl rfl (by omega) (by omega) ?_
  refine fs_ly_s (k := 4) (d := 8) (d1 := 9) (d2 := 10) (a' := 9) (va := 4) (vb := 3) 5 rfl (by omega) (Or.inr rfl) (by omega) (by omega) (by decide) hA.1.2.2.2.2 hA.2.1.2.2.2.2 hA.2.2.1.2.2.2.2 (by omega) rfl (by omega) (by omega) (by omega) (by decide) rfl rfl (by omega) (by omega) rfl rfl (by omega) (by omega) ?_
  refine fs_ly_e (k0 := 5) (by omega) fs_bit31 ⟨9, ?_⟩ 16 5 (by omega) (by omega) (by omega)
  refine fs_ly_u (k := 0) 1 rfl (by omega) (by omega) (by omega) (Or.inl rfl) ?_
  refine fs_ly_t (k := 1) (b := 9) (d := 10) (d1 := 11) (d2 := 12) (va := 1) (vb := 8) 2 rfl rfl (by omega) (by omega) (by omega) (by omega) (by omega) rfl rfl (by omega) (by omega) rfl rfl (by omega) (by omega) ?_
  refine fs_ly_t (k := 2) (b := 10) (d := 12) (d1 := 13) (d2 := 14) (va := 9) (vb := 6) 3 rfl rfl (by omega) (by omega) (by omega) (by omega) (by omega) rfl rfl (by omega) (by omega) rfl rfl (by omega) (by omega) ?_
  refine fs_ly_u (k := 3) 4 rfl (by omega) (by omega) (by omega) (Or.inr rfl) ?_
  refine fs_ly_t (k := 4) (b := 12) (d := 14) (d1 := 15) (d2 := 16) (va := -1) (vb := -1) 5 rfl rfl (by omega) (by omega) (by omega) (by omega) (by omega) rfl rfl (by omega) (by omega) rfl rfl (by omega) (by omega) ?_
  refine fs_ly_t (k := 5) (b := 13) (d := 16) (d1 := 17) (d2 := 18) (va := -1) (vb := -1) 6 rfl rfl (by omega) (by omega) (by omega) (by omega) (by omega) rfl rfl (by omega) (by omega) rfl rfl (by omega) (by omega) ?_
  refine fs_ly_t (k := 6) (b := 14) (d := 18) (d1 := 19) (d2 := 20) (va := -1) (vb := -1) 7 rfl rfl (by omega) (by omega) (by omega) (by omega) (by omega) rfl rfl (by omega) (by omega) rfl rfl (by omega) (by omega) ?_
  refine fs_ly_t (k := 7) (b := 15) (d := 20) (d1 := 21) (d2 := 22) (va := -1) (vb := -1) 8 rfl rfl (by omega) (by omega) (by omega) (by omega) (by omega) rfl rfl (by omega) (by omega) rfl rfl (by omega) (by omega) ?_
  unfold wX_lay_137
  refine fs_le 8 8 (fun _ => ?_) (fun g => absurd g (by omega))
  refine H _ _ _ _ (fs_net_ag fs_tnet (fs_c22 ⟨rfl, rfl⟩ ⟨rfl, rfl⟩ ⟨rfl, rfl⟩ ⟨rfl, rfl⟩ ⟨rfl, rfl⟩ ⟨rfl, rfl⟩ ⟨rfl, rfl⟩ ⟨rfl, rfl⟩ ⟨rfl, rfl⟩ ⟨rfl, rfl⟩ ⟨rfl, rfl⟩ ⟨rfl, rfl⟩ ⟨rfl, rfl⟩ ⟨rfl, rfl⟩ ⟨rfl, rfl⟩ ⟨rfl, rfl⟩ ⟨rfl, rfl⟩ ⟨rfl, rfl⟩ ⟨rfl, rfl⟩ ⟨rfl, rfl⟩ ⟨rfl, rfl⟩ ⟨rfl, rfl⟩) (fs_c16 rfl rfl rfl rfl rfl rfl rfl rfl rfl rfl rfl rfl rfl rfl rfl rfl)) (fs_c22 rfl rfl rfl rfl rfl rfl rfl rfl rfl rfl rfl rfl rfl rfl rfl rfl rfl rfl rfl rfl rfl rfl) (fs_c22 rfl rfl rfl rfl rfl rfl rfl rfl rfl rfl rfl rfl rfl rfl rfl rfl rfl rfl rfl rfl rfl rfl)
end
section
variable {m s t : Int} {E F N K Cn cap L0 : Int → Int} {ou : Int → List Int} {post : St2 → Prop} {pr so sk ed fw qf qs oc : Int32} {a1 a2 a3 a4 a5 a6 a7 a8 a9 a10 a11 a12 a13 a14 a15 a16 a17 a18 a19 : Nat → Int32}
theorem fs_sol {g : Int} (g0 : 0 ≤ g) (g1 : g < 7) (hn : fs_net m E F N ou) (hlen : ∀ u, 0 ≤ u → u < 16 → (ou u).length ≤ 3) (hcp : fs_cp m s t E K Cn cap ou) (s0 : 0 ≤ s) (s1 : s < 16) (t0 : 0 ≤ t) (t1 : t < 16) (st : s ≠ t) (hlp : fs_lp m K L0) (hC : ∀ u, 0 ≤ u → u < 16 → fs_m L0 (ou u) = Cn u)
    (H : fs_ok post pr (fs_i s) (fs_i t) ed a1 a2 a3 (fs_a E) (fs_a F) (fs_a N) (fs_mx m s t K E ou Cn)) {p0 : Int32} (hp : p0 = fs_i g := by rfl) :
    wpX_solve post (pr, fs_i s, fs_i t, ed, fs_i 0, qf, qs, oc, a1, a2, a3, fs_a E, fs_a L0, fs_a F, fs_a N, a8, a9, a10, a11, a12, a13, a14, a15, a16, a17, a18, a19) p0 := by
  subst hp
  have hv : fs_vf m s t K L0 ou Cn 0 := ⟨hlp, fun u u0 u1 _ => by
    rw [hC u u0 u1]
    split <;> omega⟩
  have cb := fs_m_b hn hlp s0 s1
  have cl := hlen s s0 s1
  have ce := hC s s0 s1
  unfold wpX_solve
  dsimp only
  refine fs_lt g 0 (fun z => absurd z (by omega)) (fun _ => ?_)
  refine fs_lt 5 g (fun _ => fs_e6 hn (by omega) (by omega) s0 s1 t0 t1 st hv (fun y0 y1 y2 y3 y4 y5 y6 y7 y8 y9 y10 y11 y12 y13 y14 y15 y16 y17 => H y0 y1 y2 y3 y4 y5 y6 y7 y8 y9 y10 y11 y12 y13 y14 y15 y16 y17)) (fun _ => ?_)
  refine fs_eq g 0 (fun _ => fs_e0 hn s0 s1 t0 t1 st hv (fun y0 y1 y2 y3 y4 y5 y6 y7 y8 y9 y10 y11 y12 y13 y14 y15 y16 y17 => H y0 y1 y2 y3 y4 y5 y6 y7 y8 y9 y10 y11 y12 y13 y14 y15 y16 y17)) (fun n0 => ?_)
  refine fs_eq g 1 (fun _ => fs_e1 hn s0 s1 t0 t1 st hv (fun y0 y1 y2 y3 y4 y5 y6 y7 y8 y9 y10 y11 y12 y13 y14 y15 y16 y17 => H y0 y1 y2 y3 y4 y5 y6 y7 y8 y9 y10 y11 y12 y13 y14 y15 y16 y17)) (fun n1 => ?_)
  refine fs_eq g 2 (fun _ => fs_e2 hn hcp s0 s1 t0 t1 st hlp hC (fun y0 y1 y2 y3 y4 y5 y6 y7 y8 y9 y10 y11 y12 y13 y14 y15 y16 y17 => H y0 y1 y2 y3 y4 y5 y6 y7 y8 y9 y10 y11 y12 y13 y14 y15 y16 y17)) (fun n2 => ?_)
  refine fs_eq g 3 (fun _ => fs_e3 hn hcp (by omega) s0 s1 t0 t1 st hlp hC (fun y0 y1 y2 y3 y4 y5 y6 y7 y8 y9 y10 y11 y12 y13 y14 y15 y16 y17 => H y0 y1 y2 y3 y4 y5 y6 y7 y8 y9 y10 y11 y12 y13 y14 y15 y16 y17)) (fun n3 => ?_)
  refine fs_eq g 4 (fun _ => fs_e4 hn s0 s1 t0 t1 st hv (fun y0 y1 y2 y3 y4 y5 y6 y7 y8 y9 y10 y11 y12 y13 y14 y15 y16 y17 => H y0 y1 y2 y3 y4 y5 y6 y7 y8 y9 y10 y11 y12 y13 y14 y15 y16 y17)) (fun n4 => ?_)
  exact fs_eq g 5 (fun _ => fs_e5 hn hlen s0 s1 t0 t1 st hv (fun y0 y1 y2 y3 y4 y5 y6 y7 y8 y9 y10 y11 y12 y13 y14 y15 y16 y17 => H y0 y1 y2 y3 y4 y5 y6 y7 y8 y9 y10 y11 y12 y13 y14 y15 y16 y17)) (fun n5 => absurd n5 (by omega))
end
section
variable {p q r u v mu : Int} {A1 A2 A3 : Int → Int} {post : Int32 → St2 → Prop} {pr so sk ed fw qf qs oc : Int32} {a1 a2 a3 a4 a5 a6 a7 a8 a9 a10 a11 a12 a13 a14 a15 a16 a17 a18 a19 : Nat → Int32}
/-- what a call leaves of the arcs -/
def fs_lv (post : Int32 → St2 → Prop) (A1 A2 A3 : Int → Int) (M : Int → Prop) : Prop :=
  ∀ (fl : Int) (so sk ed qf qs oc : Int32) (a4 a5 a6 a7 a8 a9 a10 a11 a12 a13 a14 a15 a16 a17 a18 a19 : Nat → Int32), M fl → post (fs_i fl) (fs_i 31, so, sk, ed, fs_i fl, qf, qs, oc, fs_a A1, fs_a A2, fs_a A3, a4, a5, a6, a7, a8, a9, a10, a11, a12, a13, a14, a15, a16, a17, a18, a19)
theorem fs_val0 {g : Int} {pg p1 p2 : Int32} (g0 : 0 ≤ g) (g1 : g < 7) (hA : fs_arcs p q r u v A1 A2 A3)
    (H : fs_lv post A1 A2 A3 (fun fl => fl ≤ p + q ∧ fl ≤ r + u ∧ fl ≤ p + u ∧ fl ≤ q + r + v ∧ (fl = p + q ∨ fl = r + u ∨ fl = p + u ∨ fl = q + r + v))) (hg : pg = fs_i g := by rfl) (h1 : p1 = fs_i 0 := by rfl) (h2 : p2 = fs_i 3 := by rfl) :
    wpX_value post (fs_i 31, so, sk, ed, fw, qf, qs, oc, fs_a A1, fs_a A2, fs_a A3, a4, a5, a6, a7, a8, a9, a10, a11, a12, a13, a14, a15, a16, a17, a18, a19) pg p1 p2 := by
  subst hg h1 h2
  have hb := hA.2.2.2
  obtain ⟨E0, rfl⟩ := fs_all a4
  obtain ⟨L0, rfl⟩ := fs_all a5
  obtain ⟨F0, rfl⟩ := fs_all a6
  obtain ⟨N0, rfl⟩ := fs_all a7
  unfold wpX_value
  dsimp only
  refine fs_ispr (a := 0) (b := 3) (by omega) (by omega) (by omega) (by omega) (by omega) (br_f (by decide) (fs_ise g0 g1 (br_f (by decide) ?_)))
  unfold wpX_best
  dsimp only
  refine fs_lay0 (mu := 1) (by omega) (by omega) hA (fun E L F N hn hE hL => ?_)
  have hi := fs_ini hn hL (fs_pbd hb.1 hb.2.1 hb.2.2.1 hb.2.2.2.1 hb.2.2.2.2)
  refine fs_sol g0 g1 hn fs_plen (fs_k0_cp hb.1 hb.2.1 hb.2.2.1 hb.2.2.2.1 hb.2.2.2.2 hE) (by omega) (by omega) (by omega) (by omega) (by omega) hi.1 hi.2 (fun fl y1 y2 y3 y4 y5 y6 y7 y8 y9 y10 y11 y12 y13 y14 y15 y16 hM => ?_)
  exact H fl _ _ _ _ _ _ _ _ _ _ _ _ _ _ _ _ _ _ _ _ _ _ (fs_f0 hb.1 hb.2.1 hb.2.2.1 hb.2.2.2.1 hb.2.2.2.2 hE hM)
theorem fs_val1 {g : Int} {pg p1 p2 : Int32} (g0 : 0 ≤ g) (g1 : g < 7) (hA : fs_arcs p q r u v A1 A2 A3)
    (H : fs_lv post A1 A2 A3 (fun fl => fl = 0)) (hg : pg = fs_i g := by rfl) (h1 : p1 = fs_i 3 := by rfl) (h2 : p2 = fs_i 0 := by rfl) :
    wpX_value post (fs_i 31, so, sk, ed, fw, qf, qs, oc, fs_a A1, fs_a A2, fs_a A3, a4, a5, a6, a7, a8, a9, a10, a11, a12, a13, a14, a15, a16, a17, a18, a19) pg p1 p2 := by
  subst hg h1 h2
  have hb := hA.2.2.2
  obtain ⟨E0, rfl⟩ := fs_all a4
  obtain ⟨L0, rfl⟩ := fs_all a5
  obtain ⟨F0, rfl⟩ := fs_all a6
  obtain ⟨N0, rfl⟩ := fs_all a7
  unfold wpX_value
  dsimp only
  refine fs_ispr (a := 3) (b := 0) (by omega) (by omega) (by omega) (by omega) (by omega) (br_f (by decide) (fs_ise g0 g1 (br_f (by decide) ?_)))
  unfold wpX_best
  dsimp only
  refine fs_lay0 (mu := 1) (by omega) (by omega) hA (fun E L F N hn hE hL => ?_)
  have hi := fs_ini hn hL (fs_pbd hb.1 hb.2.1 hb.2.2.1 hb.2.2.2.1 hb.2.2.2.2)
  refine fs_sol g0 g1 hn fs_plen (fs_k1_cp hb.1 hb.2.1 hb.2.2.1 hb.2.2.2.1 hb.2.2.2.2 hE) (by omega) (by omega) (by omega) (by omega) (by omega) hi.1 hi.2 (fun fl y1 y2 y3 y4 y5 y6 y7 y8 y9 y10 y11 y12 y13 y14 y15 y16 hM => ?_)
  exact H fl _ _ _ _ _ _ _ _ _ _ _ _ _ _ _ _ _ _ _ _ _ _ (fs_f1 hb.1 hb.2.1 hb.2.2.1 hb.2.2.2.1 hb.2.2.2.2 hE hM)
theorem fs_thr {p1 p2 : Int32} (hA : fs_arcs p q r u v A1 A2 A3) (hmu : 0 ≤ mu ∧ mu ≤ 99)
    (H : fs_lv post A1 A2 A3 (fun fl => ∀ z1 z2, (z1 ≤ p ∧ z1 ≤ mu ∧ (z1 = p ∨ z1 = mu)) → (z2 ≤ u ∧ z2 ≤ mu ∧ (z2 = u ∨ z2 = mu)) → fl ≤ z1 + q ∧ fl ≤ r + z2 ∧ fl ≤ z1 + z2 ∧ fl ≤ q + r + v ∧ (fl = z1 + q ∨ fl = r + z2 ∨ fl = z1 + z2 ∨ fl = q + r + v))) (h1 : p1 = fs_i 0 := by rfl) (h2 : p2 = fs_i 3 := by rfl) :
    wpX_throttled post (fs_i 31, so, sk, ed, fw, qf, qs, oc, fs_a A1, fs_a A2, fs_a A3, a4, a5, a6, a7, a8, a9, a10, a11, a12, a13, a14, a15, a16, a17, a18, a19) p1 p2 (fs_i mu) := by
  subst h1 h2
  have hb := hA.2.2.2
  obtain ⟨E0, rfl⟩ := fs_all a4
  obtain ⟨L0, rfl⟩ := fs_all a5
  obtain ⟨F0, rfl⟩ := fs_all a6
  obtain ⟨N0, rfl⟩ := fs_all a7
  unfold wpX_throttled
  dsimp only
  refine fs_ispr (a := 0) (b := 3) (by omega) (by omega) (by omega) (by omega) (by omega) (br_f (by decide) (fs_lt mu 0 (fun g => absurd g (by omega)) (fun _ => fs_le mu 99 (fun _ => ?_) (fun g => absurd g (by omega)))))
  refine fs_lay3 hA hmu (fun E L F N hn hE hL => ?_)
  have hi := fs_ini hn hL (fs_tbd hb.1 hb.2.1 hb.2.2.1 hb.2.2.2.1 hb.2.2.2.2 hmu)
  refine fs_sol (g := 3) (by omega) (by omega) hn fs_tlen (fs_k3_cp hb.1 hb.2.1 hb.2.2.1 hb.2.2.2.1 hb.2.2.2.2 hmu hE) (by omega) (by omega) (by omega) (by omega) (by omega) hi.1 hi.2 (fun fl y1 y2 y3 y4 y5 y6 y7 y8 y9 y10 y11 y12 y13 y14 y15 y16 hM => ?_)
  exact H fl _ _ _ _ _ _ _ _ _ _ _ _ _ _ _ _ _ _ _ _ _ _ (fun z1 z2 hz1 hz2 => fs_f3 hb.1 hb.2.1 hb.2.2.1 hb.2.2.2.1 hb.2.2.2.2 hmu hE hM hz1 hz2)
end
end
section
/-! part 22: the law (printed by mk22.py) -/
theorem fs_r100 (x : Int32) : ∃ z : Int, 0 ≤ z ∧ z ≤ 99 ∧ (x &&& 65535) - (x &&& 65535) / 100 * 100 = fs_i z := by
  obtain ⟨j, hj, e⟩ := pk_andE x (m := 65535) 16 (by decide)
  have w := pk_rem (a := j) (d := 100) (by omega) (by omega) (by omega)
  refine ⟨((j % 100 : Nat) : Int), by omega, by omega, ?_⟩
  rw [e, ← fs_nI]
  exact w
theorem fs_r7 (x : Int32) : ∃ z : Int, 0 ≤ z ∧ z < 7 ∧ (x &&& 255) - (x &&& 255) / 7 * 7 = fs_i z := by
  obtain ⟨j, hj, e⟩ := pk_andE x (m := 255) 8 (by decide)
  have w := pk_rem (a := j) (d := 7) (by omega) (by omega) (by omega)
  refine ⟨((j % 7 : Nat) : Int), by omega, by omega, ?_⟩
  rw [e, ← fs_nI]
  exact w
def fs_mn (a b z : Int) : Prop := z ≤ a ∧ z ≤ b ∧ (z = a ∨ z = b)
def fs_c4 (a b c d f : Int) : Prop := f ≤ a ∧ f ≤ b ∧ f ≤ c ∧ f ≤ d ∧ (f = a ∨ f = b ∨ f = c ∨ f = d)
theorem fs_pick {a b c d f x y z : Int} (h : fs_c4 a b c d f) (h1 : fs_mn a b x) (h2 : fs_mn c d y) (h3 : fs_mn x y z) : f = z := by
  obtain ⟨f1, f2, f3, f4, f5⟩ := h
  obtain ⟨x1, x2, x3⟩ := h1
  obtain ⟨y1, y2, y3⟩ := h2
  obtain ⟨z1, z2, z3⟩ := h3
  omega
theorem fs_c4b {a b c d f : Int} (h : fs_c4 a b c d f) (ha : 0 ≤ a ∧ a ≤ 1000) (hb : 0 ≤ b ∧ b ≤ 1000) (hc : 0 ≤ c ∧ c ≤ 1000) (hd : 0 ≤ d ∧ d ≤ 1000) : 0 ≤ f ∧ f ≤ 1000 := by
  obtain ⟨f1, f2, f3, f4, f5⟩ := h
  omega
theorem fs_min {post : Int32 → Prop} {a b : Int} {p0 p1 : Int32} (ha : 0 ≤ a ∧ a ≤ 1000) (hb : 0 ≤ b ∧ b ≤ 1000) (H : ∀ z, fs_mn a b z → (0 ≤ z ∧ z ≤ a ∧ z ≤ b) → post (fs_i z)) (h0 : p0 = fs_i a := by rfl) (h1 : p1 = fs_i b := by rfl) : wpL_min post () p0 p1 := by
  subst h0 h1
  unfold wpL_min
  exact fs_le b a (fun g => H b ⟨g, Int.le_refl _, Or.inr rfl⟩ ⟨hb.1, g, Int.le_refl _⟩) (fun g => H a ⟨Int.le_refl _, by omega, Or.inl rfl⟩ ⟨ha.1, Int.le_refl _, by omega⟩)
theorem fs_cel {post : Int32 → Prop} {L k : Nat} {xs : Nat → Int32} (hL : L ≤ 6) (hk : k ≤ 6) (H : ∀ z, post z) {p1 : Int32} (hp : p1 = nI k := by rfl) : wpL_cellAt post L xs () p1 := by
  subst hp
  unfold wpL_cellAt
  exact pk_le L k (fun _ => H 0) (fun h => ⟨pk_in k L h, H _⟩)
theorem fs_law (x0 x1 x2 x3 x4 x5 : Int32) : wpL_lawOf (fun r _ => r = 1) 20 607 () x0 x1 x2 x3 x4 x5 := by
  obtain ⟨p, p0, p1, ep⟩ := fs_r100 x0
  obtain ⟨q, q0, q1, eq⟩ := fs_r100 x1
  obtain ⟨r, r0, r1, er⟩ := fs_r100 x2
  obtain ⟨u, u0, u1, eu⟩ := fs_r100 x3
  obtain ⟨v, v0, v1, ev⟩ := fs_r100 x4
  obtain ⟨mu, m0, m1, em⟩ := fs_r100 x5
  obtain ⟨g, g0, g1, eg⟩ := fs_r7 (x0 >>> ((16 : Int32) &&& 31))
  obtain ⟨h, h0, h1, eh⟩ := fs_r7 (x1 >>> ((16 : Int32) &&& 31))
  unfold wpL_lawOf
  rw [ep, eq, er, eu, ev, em, eg, eh]
  refine ⟨by decide, by decide, 19, 580, by decide, by decide, ?_⟩
  unfold wpX_init
  dsimp only
  refine ⟨by decide, by decide, by decide, by decide, by decide, by decide, by decide, by decide, by decide, by decide, by decide, by decide, by decide, by decide, by decide, by decide, by decide, by decide, by decide, by decide, by decide, by decide, by decide, by decide, by decide, by decide, by decide, by decide, by decide, by decide, by decide, by decide, by decide, by decide, by decide, by decide, by decide, by decide, ?_⟩
  refine ⟨by decide, nm_e ⟨by decide, nm_e ⟨by decide, nm_e ⟨by decide, nm_e ⟨by decide, nm_e ⟨by decide, nm_e ?_⟩⟩⟩⟩⟩⟩
  refine fs_ad (A1 := (fun _ => 0)) (A2 := (fun _ => 0)) (A3 := (fun _ => 0)) (a := 0) (b := 1) (r := p) (j := 0) (pr' := fs_i 1) (by omega) (by omega) (by omega) (by omega) (by omega) (by omega) (by omega) (by omega) (fun k k0 k1 => by omega) (by decide) (by decide) ?_
  dsimp only
  refine fs_ad (A1 := (fs_u (fun _ => 0) 0 0)) (A2 := (fs_u (fun _ => 0) 0 1)) (A3 := (fs_u (fun _ => 0) 0 p)) (a := 0) (b := 2) (r := q) (j := 1) (pr' := fs_i 3) (by omega) (by omega) (by omega) (by omega) (by omega) (by omega) (by omega) (by omega) (fun k k0 k1 => by
    have w : k = 0 := by omega
    rw [w]
    decide) (by decide) (by decide) ?_
  dsimp only
  refine fs_ad (A1 := (fs_u (fs_u (fun _ => 0) 0 0) 1 0)) (A2 := (fs_u (fs_u (fun _ => 0) 0 1) 1 2)) (A3 := (fs_u (fs_u (fun _ => 0) 0 p) 1 q)) (a := 1) (b := 3) (r := r) (j := 2) (pr' := fs_i 7) (by omega) (by omega) (by omega) (by omega) (by omega) (by omega) (by omega) (by omega) (fun k k0 k1 => by
    have w : k = 0 ∨ k = 1 := by omega
    rcases w with w | w
    · rw [w]
      decide
    · rw [w]
      decide) (by decide) (by decide) ?_
  dsimp only
  refine fs_ad (A1 := (fs_u (fs_u (fs_u (fun _ => 0) 0 0) 1 0) 2 1)) (A2 := (fs_u (fs_u (fs_u (fun _ => 0) 0 1) 1 2) 2 3)) (A3 := (fs_u (fs_u (fs_u (fun _ => 0) 0 p) 1 q) 2 r)) (a := 2) (b := 3) (r := u) (j := 3) (pr' := fs_i 15) (by omega) (by omega) (by omega) (by omega) (by omega) (by omega) (by omega) (by omega) (fun k k0 k1 => by
    have w : k = 0 ∨ k = 1 ∨ k = 2 := by omega
    rcases w with w | w | w
    · rw [w]
      decide
    · rw [w]
      decide
    · rw [w]
      decide) (by decide) (by decide) ?_
  dsimp only
  refine fs_ad (A1 := (fs_u (fs_u (fs_u (fs_u (fun _ => 0) 0 0) 1 0) 2 1) 3 2)) (A2 := (fs_u (fs_u (fs_u (fs_u (fun _ => 0) 0 1) 1 2) 2 3) 3 3)) (A3 := (fs_u (fs_u (fs_u (fs_u (fun _ => 0) 0 p) 1 q) 2 r) 3 u)) (a := 1) (b := 2) (r := v) (j := 4) (pr' := fs_i 31) (by omega) (by omega) (by omega) (by omega) (by omega) (by omega) (by omega) (by omega) (fun k k0 k1 => by
    have w : k = 0 ∨ k = 1 ∨ k = 2 ∨ k = 3 := by omega
    rcases w with w | w | w | w
    · rw [w]
      decide
    · rw [w]
      decide
    · rw [w]
      decide
    · rw [w]
      decide) (by decide) (by decide) ?_
  dsimp only
  refine ⟨by decide, fs_val0 (A1 := (fs_u (fs_u (fs_u (fs_u (fs_u (fun _ => 0) 0 0) 1 0) 2 1) 3 2) 4 1)) (A2 := (fs_u (fs_u (fs_u (fs_u (fs_u (fun _ => 0) 0 1) 1 2) 2 3) 3 3) 4 2)) (A3 := (fs_u (fs_u (fs_u (fs_u (fs_u (fun _ => 0) 0 p) 1 q) 2 r) 3 u) 4 v)) (p := p) (q := q) (r := r) (u := u) (v := v) g0 g1 ?_ (fun fl y1 y2 y3 y4 y5 y6 y7 y8 y9 y10 y11 y12 y13 y14 y15 y16 y17 y18 y19 y20 y21 y22 hM => ?_)⟩
  · exact ⟨⟨rfl, rfl, rfl, rfl, rfl⟩, ⟨rfl, rfl, rfl, rfl, rfl⟩, ⟨rfl, rfl, rfl, rfl, rfl⟩, by omega, by omega, by omega, by omega, by omega⟩
  dsimp only at hM ⊢
  refine ⟨by decide, fs_val1 (p := p) (q := q) (r := r) (u := u) (v := v) h0 h1 ?_ (fun fl2 y1 y2 y3 y4 y5 y6 y7 y8 y9 y10 y11 y12 y13 y14 y15 y16 y17 y18 y19 y20 y21 y22 hM2 => ?_)⟩
  · exact ⟨⟨rfl, rfl, rfl, rfl, rfl⟩, ⟨rfl, rfl, rfl, rfl, rfl⟩, ⟨rfl, rfl, rfl, rfl, rfl⟩, by omega, by omega, by omega, by omega, by omega⟩
  dsimp only at hM2 ⊢
  refine fs_thr (p := p) (q := q) (r := r) (u := u) (v := v) ?_ (by omega) (fun fl3 y1 y2 y3 y4 y5 y6 y7 y8 y9 y10 y11 y12 y13 y14 y15 y16 y17 y18 y19 y20 y21 y22 hM3 => ?_)
  · exact ⟨⟨rfl, rfl, rfl, rfl, rfl⟩, ⟨rfl, rfl, rfl, rfl, rfl⟩, ⟨rfl, rfl, rfl, rfl, rfl⟩, by omega, by omega, by omega, by omega, by omega⟩
  dsimp only at hM3 ⊢
  subst hM2
  have c1 : fs_c4 (p + q) (r + u) (p + u) (q + r + v) fl := hM
  clear hM
  have b1 := fs_c4b c1 (by omega) (by omega) (by omega) (by omega)
  refine fs_min (a := p + q) (b := r + u) (by omega) (by omega) (fun e1 d1 o1 => ?_) (fs_add p q) (fs_add r u)
  refine fs_min (a := p + u) (b := q + r + v) (by omega) (by omega) (fun e2 d2 o2 => ?_) (fs_add p u) (by rw [fs_add, fs_add])
  refine fs_min (a := p) (b := mu) (by omega) (by omega) (fun z1 d3 o3 => ?_)
  refine fs_min (a := u) (b := mu) (by omega) (by omega) (fun z2 d4 o4 => ?_)
  have c2 : fs_c4 (z1 + q) (r + z2) (z1 + z2) (q + r + v) fl3 := hM3 z1 z2 d3 d4
  clear hM3
  have b2 := fs_c4b c2 (by omega) (by omega) (by omega) (by omega)
  refine fs_min (a := z1 + q) (b := r + z2) (by omega) (by omega) (fun e5 d5 o5 => ?_) (fs_add z1 q) (fs_add r z2)
  refine fs_min (a := z1 + z2) (b := q + r + v) (by omega) (by omega) (fun e6 d6 o6 => ?_) (fs_add z1 z2) (by rw [fs_add, fs_add])
  refine fs_min (a := e1) (b := e2) (by omega) (by omega) (fun e7 d7 o7 => ?_)
  refine fs_eq fl e7 (fun _ => fs_eq 0 0 (fun _ => ?_) (fun z => absurd rfl z)) (fun z => absurd (fs_pick c1 d1 d2 d7) z)
  refine fs_min (a := e5) (b := e6) (by omega) (by omega) (fun e8 d8 o8 => ?_)
  exact fs_eq fl3 e8 (fun _ => rfl) (fun z => absurd (fs_pick c2 d5 d6 d8) z)
/-- what is owed -/
theorem i_vc (xs : Nat → Int32) (L : Nat) (hL : L ≤ 6) : wpL_law (fun r => r = 1) L xs := by
  unfold wpL_law
  refine fs_cel (k := 0) hL (by omega) (fun x0 => fs_cel (k := 1) hL (by omega) (fun x1 => fs_cel (k := 2) hL (by omega) (fun x2 => fs_cel (k := 3) hL (by omega) (fun x3 => fs_cel (k := 4) hL (by omega) (fun x4 => fs_cel (k := 5) hL (by omega) (fun x5 => ?_))))))
  exact ⟨20, 607, by decide, by decide, fs_law x0 x1 x2 x3 x4 x5⟩
end

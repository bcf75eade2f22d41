section
/-! part 1: finite lists, an action of a finite set of codes, the count of fixed points -/
theorem ck_ndmap {f : Nat → Nat} {l : List Nat} (h : l.Nodup) (hi : ∀ x, x ∈ l → ∀ y, y ∈ l → f x = f y → x = y) : (l.map f).Nodup := by
  induction l with
  | nil => simp
  | cons a l ih =>
    rw [List.map_cons, List.nodup_cons]
    rw [List.nodup_cons] at h
    refine ⟨fun hm => ?_, ih h.2 (fun x hx y hy => hi x (List.mem_cons_of_mem _ hx) y (List.mem_cons_of_mem _ hy))⟩
    obtain ⟨x, hx, e⟩ := List.mem_map.mp hm
    have e' : x = a := hi x (List.mem_cons_of_mem _ hx) a List.mem_cons_self e
    rw [e'] at hx
    exact h.1 hx
/-- an injective map of a list without repeats into itself rearranges it -/
theorem ck_perm {l : List Nat} {f : Nat → Nat} (hn : l.Nodup) (hm : ∀ x, x ∈ l → f x ∈ l) (hi : ∀ x, x ∈ l → ∀ y, y ∈ l → f x = f y → x = y) : (l.map f).Perm l := by
  have hN : (l.map f).Nodup := ck_ndmap hn hi
  have hsub : ∀ y, y ∈ l.map f → y ∈ l := by
    intro y hy
    obtain ⟨x, hx, rfl⟩ := List.mem_map.mp hy
    exact hm x hx
  refine (List.perm_ext_iff_of_nodup hN hn).mpr (fun a => ⟨fun h => hsub a h, fun h => ?_⟩)
  apply Classical.byContradiction
  intro hna
  have h1 : (a :: l.map f).Nodup := List.nodup_cons.mpr ⟨hna, hN⟩
  have h2 : (a :: l.map f) ⊆ l := by
    intro y hy
    rcases List.mem_cons.mp hy with e | hy
    · rw [e]
      exact h
    · exact hsub y hy
  have h3 := h1.length_le_of_subset h2
  rw [List.length_cons, List.length_map] at h3
  omega
theorem ck_cnt {l : List Nat} {f : Nat → Nat} (p : Nat → Bool) (hn : l.Nodup) (hm : ∀ x, x ∈ l → f x ∈ l) (hi : ∀ x, x ∈ l → ∀ y, y ∈ l → f x = f y → x = y) : l.countP (fun x => p (f x)) = l.countP p := by
  have h := (ck_perm hn hm hi).countP_eq p
  rw [List.countP_map] at h
  exact h
def ck_ls (f : Nat → Nat) : List Nat → Nat
  | [] => 0
  | a :: l => f a + ck_ls f l
theorem ck_ls_congr {f g : Nat → Nat} {l : List Nat} (h : ∀ x, x ∈ l → f x = g x) : ck_ls f l = ck_ls g l := by
  induction l with
  | nil => rfl
  | cons a l ih =>
    show f a + ck_ls f l = g a + ck_ls g l
    rw [h a List.mem_cons_self, ih (fun x hx => h x (List.mem_cons_of_mem _ hx))]
theorem ck_ls_le {f g : Nat → Nat} {l : List Nat} (h : ∀ x, x ∈ l → f x ≤ g x) : ck_ls f l ≤ ck_ls g l := by
  induction l with
  | nil => exact Nat.le_refl _
  | cons a l ih => exact Nat.add_le_add (h a List.mem_cons_self) (ih (fun x hx => h x (List.mem_cons_of_mem _ hx)))
theorem ck_ls_add (f g : Nat → Nat) (l : List Nat) : ck_ls (fun x => f x + g x) l = ck_ls f l + ck_ls g l := by
  induction l with
  | nil => rfl
  | cons a l ih =>
    show f a + g a + ck_ls (fun x => f x + g x) l = f a + ck_ls f l + (g a + ck_ls g l)
    rw [ih]
    omega
theorem ck_ls_const (k : Nat) (l : List Nat) : ck_ls (fun _ => k) l = l.length * k := by
  induction l with
  | nil => simp [ck_ls]
  | cons a l ih =>
    show k + ck_ls (fun _ => k) l = _
    rw [ih, List.length_cons, Nat.succ_mul]
    omega
theorem ck_ls_app (f : Nat → Nat) (l m : List Nat) : ck_ls f (l ++ m) = ck_ls f l + ck_ls f m := by
  induction l with
  | nil => simp [ck_ls]
  | cons a l ih =>
    show f a + ck_ls f (l ++ m) = f a + ck_ls f l + ck_ls f m
    rw [ih]
    omega
theorem ck_ls_map (f h : Nat → Nat) (l : List Nat) : ck_ls f (l.map h) = ck_ls (fun x => f (h x)) l := by
  induction l with
  | nil => rfl
  | cons a l ih =>
    show f (h a) + ck_ls f (l.map h) = f (h a) + _
    rw [ih]
theorem ck_ls_perm {f : Nat → Nat} {l m : List Nat} (h : l.Perm m) : ck_ls f l = ck_ls f m := by
  induction h with
  | nil => rfl
  | cons a _ ih =>
    show f a + _ = f a + _
    rw [ih]
  | swap a b l =>
    show f b + (f a + ck_ls f l) = f a + (f b + ck_ls f l)
    omega
  | trans _ _ h1 h2 => rw [h1, h2]
theorem ck_ls_ind (q : Nat → Bool) (l : List Nat) : l.countP q = ck_ls (fun b => if q b = true then 1 else 0) l := by
  induction l with
  | nil => rfl
  | cons a l ih =>
    rw [List.countP_cons, ih]
    show _ = (if q a = true then 1 else 0) + _
    omega
theorem ck_ls_swap (p : Nat → Nat → Bool) (l m : List Nat) : ck_ls (fun a => m.countP (p a)) l = ck_ls (fun b => l.countP (fun a => p a b)) m := by
  induction l with
  | nil =>
    have h : ck_ls (fun b => ([] : List Nat).countP (fun a => p a b)) m = ck_ls (fun _ => 0) m := ck_ls_congr (fun x _ => rfl)
    rw [h, ck_ls_const]
    rfl
  | cons a l ih =>
    have h : ck_ls (fun b => (a :: l).countP (fun a => p a b)) m = ck_ls (fun b => l.countP (fun a => p a b) + if p a b = true then 1 else 0) m := ck_ls_congr (fun x _ => List.countP_cons)
    rw [h, ck_ls_add, ← ck_ls_ind, ← ih]
    show m.countP (p a) + _ = _
    omega
theorem ck_ls_dvd {f : Nat → Nat} {s : Nat} {l : List Nat} (h : ∀ x, x ∈ l → s ∣ f x) : s ∣ ck_ls f l := by
  induction l with
  | nil => exact Nat.dvd_zero s
  | cons a l ih => exact Nat.dvd_add (h a List.mem_cons_self) (ih (fun x hx => h x (List.mem_cons_of_mem _ hx)))
theorem ck_ls_mul (k : Nat) (f : Nat → Nat) (l : List Nat) : ck_ls (fun x => k * f x) l = k * ck_ls f l := by
  induction l with
  | nil => rfl
  | cons a l ih =>
    show k * f a + ck_ls (fun x => k * f x) l = k * (f a + ck_ls f l)
    rw [ih, Nat.mul_add]
/-! a group of codes (product M, unit e) and its action A on a list X -/
def ck_Gg (e : Nat) (M : Nat → Nat → Nat) (G : List Nat) : Prop :=
  G.Nodup ∧ e ∈ G ∧ (∀ g, g ∈ G → ∀ h, h ∈ G → M g h ∈ G) ∧ (∀ h, h ∈ G → ∀ a, a ∈ G → ∀ b, b ∈ G → M a h = M b h → a = b)
def ck_Ac (e : Nat) (M A : Nat → Nat → Nat) (G X : List Nat) : Prop :=
  X.Nodup ∧ (∀ x, x ∈ X → ∀ g, g ∈ G → A x g ∈ X) ∧ (∀ x, x ∈ X → A x e = x) ∧ (∀ x, x ∈ X → ∀ g, g ∈ G → ∀ h, h ∈ G → A (A x g) h = A x (M g h))
theorem ck_linv {e : Nat} {M : Nat → Nat → Nat} {G : List Nat} (hG : ck_Gg e M G) {h : Nat} (hh : h ∈ G) : ∃ k, k ∈ G ∧ M k h = e := by
  obtain ⟨h1, h2, h3, h4⟩ := hG
  have hp := ck_perm (f := fun g => M g h) h1 (fun x hx => h3 x hx h hh) (fun x hx y hy => h4 h hh x hx y hy)
  have := hp.mem_iff.mpr h2
  obtain ⟨k, hk, e'⟩ := List.mem_map.mp this
  exact ⟨k, hk, e'⟩
theorem ck_inv {e : Nat} {M A : Nat → Nat → Nat} {G X : List Nat} (hG : ck_Gg e M G) (hA : ck_Ac e M A G X) {h : Nat} (hh : h ∈ G) :
    ∃ k, k ∈ G ∧ (∀ x, x ∈ X → A (A x h) k = x) ∧ (∀ x, x ∈ X → A (A x k) h = x) := by
  obtain ⟨k, hk, e1⟩ := ck_linv hG hh
  obtain ⟨k2, hk2, e2⟩ := ck_linv hG hk
  obtain ⟨a1, a2, a3, a4⟩ := hA
  have b1 : ∀ x, x ∈ X → A (A x k) h = x := fun x hx => by rw [a4 x hx k hk h hh, e1, a3 x hx]
  have b2 : ∀ x, x ∈ X → A (A x k2) k = x := fun x hx => by rw [a4 x hx k2 hk2 k hk, e2, a3 x hx]
  refine ⟨k, hk, fun z hz => ?_, b1⟩
  have c1 : A z h = A z k2 := by
    have := b1 (A z k2) (a2 z hz k2 hk2)
    rw [b2 z hz] at this
    exact this
  rw [c1]
  exact b2 z hz
theorem ck_stab {e : Nat} {M A : Nat → Nat → Nat} {G X : List Nat} (hG : ck_Gg e M G) (hA : ck_Ac e M A G X) {x h : Nat} (hx : x ∈ X) (hh : h ∈ G) :
    G.countP (fun g => A x g == A x h) = G.countP (fun g => A x g == x) := by
  obtain ⟨k, hk, k1, _⟩ := ck_inv hG hA hh
  obtain ⟨g1, g2, g3, g4⟩ := hG
  obtain ⟨a1, a2, a3, a4⟩ := hA
  rw [← ck_cnt (f := fun g => M g h) (fun g => A x g == A x h) g1 (fun g hg => g3 g hg h hh) (fun a ha b hb => g4 h hh a ha b hb)]
  apply List.countP_congr
  intro g hg
  rw [← a4 x hx g hg h hh, beq_iff_eq, beq_iff_eq]
  constructor
  · intro t
    have t2 : A (A (A x g) h) k = A (A x h) k := by rw [t]
    rw [k1 _ (a2 x hx g hg), k1 x hx] at t2
    exact t2
  · intro t
    rw [t]
/-- m is the least of x and what the codes make of it -/
def ck_isN (A : Nat → Nat → Nat) (G : List Nat) (x m : Nat) : Prop := (m = x ∨ ∃ g, g ∈ G ∧ m = A x g) ∧ m ≤ x ∧ ∀ g, g ∈ G → m ≤ A x g
theorem ck_isN_u {A : Nat → Nat → Nat} {G : List Nat} {x m n : Nat} (h : ck_isN A G x m) (h' : ck_isN A G x n) : m = n := by
  have h1 : m ≤ n := by
    rcases h'.1 with e | ⟨g, hg, e⟩
    · rw [e]
      exact h.2.1
    · rw [e]
      exact h.2.2 g hg
  have h2 : n ≤ m := by
    rcases h.1 with e | ⟨g, hg, e⟩
    · rw [e]
      exact h'.2.1
    · rw [e]
      exact h'.2.2 g hg
  omega
theorem ck_isN_step {A : Nat → Nat → Nat} {G : List Nat} {x m g : Nat} (h : ck_isN A G x m) : ck_isN A (G ++ [g]) x (if m ≤ A x g then m else A x g) := by
  obtain ⟨h1, h2, h3⟩ := h
  refine ⟨?_, ?_, ?_⟩
  · split
    · rcases h1 with e | ⟨k, hk, e⟩
      · exact Or.inl e
      · exact Or.inr ⟨k, List.mem_append_left _ hk, e⟩
    · exact Or.inr ⟨g, by simp, rfl⟩
  · split <;> omega
  · intro k hk
    rcases List.mem_append.mp hk with hk | hk
    · have := h3 k hk
      split <;> omega
    · have e : k = g := by simpa using hk
      rw [e]
      split <;> omega
theorem ck_isN_ex (A : Nat → Nat → Nat) (x : Nat) (G : List Nat) : ∃ m, ck_isN A G x m := by
  suffices h : ∀ l : List Nat, ∃ m, ck_isN A l.reverse x m by
    have := h G.reverse
    rw [List.reverse_reverse] at this
    exact this
  intro l
  induction l with
  | nil => exact ⟨x, Or.inl rfl, Nat.le_refl _, fun g hg => absurd hg (by simp)⟩
  | cons a l ih =>
    obtain ⟨m, hm⟩ := ih
    rw [List.reverse_cons]
    exact ⟨_, ck_isN_step hm⟩
noncomputable def ck_N (A : Nat → Nat → Nat) (G : List Nat) (x : Nat) : Nat := Classical.choose (ck_isN_ex A x G)
theorem ck_N_is (A : Nat → Nat → Nat) (G : List Nat) (x : Nat) : ck_isN A G x (ck_N A G x) := Classical.choose_spec (ck_isN_ex A x G)
theorem ck_isN_g {e : Nat} {M A : Nat → Nat → Nat} {G X : List Nat} (hG : ck_Gg e M G) (hA : ck_Ac e M A G X) {x m : Nat} (hx : x ∈ X) (h : ck_isN A G x m) : ∃ g, g ∈ G ∧ m = A x g := by
  rcases h.1 with t | t
  · exact ⟨e, hG.2.1, by rw [t, hA.2.2.1 x hx]⟩
  · exact t
theorem ck_N_inv {e : Nat} {M A : Nat → Nat → Nat} {G X : List Nat} (hG : ck_Gg e M G) (hA : ck_Ac e M A G X) {x m k : Nat} (hx : x ∈ X) (hk : k ∈ G) (h : ck_isN A G (A x k) m) : ck_isN A G x m := by
  have hxk := hA.2.1 x hx k hk
  obtain ⟨g, hg, e1⟩ := ck_isN_g hG hA hxk h
  obtain ⟨k', hk', i1, _⟩ := ck_inv hG hA hk
  have hall : ∀ g, g ∈ G → m ≤ A x g := by
    intro g hg
    have e2 : A x g = A (A x k) (M k' g) := by
      rw [← hA.2.2.2 _ hxk k' hk' g hg, i1 x hx]
    rw [e2]
    exact h.2.2 _ (hG.2.2.1 k' hk' g hg)
  refine ⟨Or.inr ⟨M k g, hG.2.2.1 k hk g hg, ?_⟩, ?_, hall⟩
  · rw [e1, hA.2.2.2 x hx k hk g hg]
  · have := hall e hG.2.1
    rw [hA.2.2.1 x hx] at this
    exact this
def ck_rp (A : Nat → Nat → Nat) (G : List Nat) (x : Nat) : Bool := G.all (fun g => decide (x ≤ A x g))
theorem ck_rp_iff {A : Nat → Nat → Nat} {G : List Nat} {x : Nat} : ck_rp A G x = true ↔ ∀ g, g ∈ G → x ≤ A x g := by
  unfold ck_rp
  rw [List.all_eq_true]
  exact ⟨fun h g hg => of_decide_eq_true (h g hg), fun h g hg => decide_eq_true (h g hg)⟩
theorem ck_rp_N {A : Nat → Nat → Nat} {G : List Nat} {x m : Nat} (h : ck_isN A G x m) : x = m ↔ ck_rp A G x = true := by
  rw [ck_rp_iff]
  constructor
  · intro e g hg
    rw (config := { occs := .pos [1] }) [e]
    exact h.2.2 g hg
  · intro hr
    have : x ≤ m := by
      rcases h.1 with e | ⟨g, hg, e⟩
      · omega
      · rw [e]
        exact hr g hg
    have := h.2.1
    omega
/-- the sum of the numbers of points left is the order times the number of least points -/
theorem ck_burn {e : Nat} {M A : Nat → Nat → Nat} {G X : List Nat} (hG : ck_Gg e M G) (hA : ck_Ac e M A G X) :
    ck_ls (fun g => X.countP (fun x => A x g == x)) G = G.length * X.countP (ck_rp A G) := by
  rw [ck_ls_swap (fun g x => A x g == x) G X]
  have s1 : ck_ls (fun x => G.countP (fun g => A x g == x)) X = ck_ls (fun x => G.countP (fun g => A x g == ck_N A G x)) X := by
    apply ck_ls_congr
    intro x hx
    obtain ⟨h, hh, e1⟩ := ck_isN_g hG hA hx (ck_N_is A G x)
    rw [e1]
    exact (ck_stab hG hA hx hh).symm
  rw [s1, ← ck_ls_swap (fun g x => A x g == ck_N A G x) G X, ← ck_ls_const]
  apply ck_ls_congr
  intro g hg
  obtain ⟨k, hk, i1, i2⟩ := ck_inv hG hA hg
  rw [← ck_cnt (f := fun y => A y k) (fun x => A x g == ck_N A G x) hA.1 (fun x hx => hA.2.1 x hx k hk)
    (fun x hx y hy t => by
      have t2 : A (A x k) g = A (A y k) g := by
        rw [t]
      rw [i2 x hx, i2 y hy] at t2
      exact t2)]
  apply List.countP_congr
  intro y hy
  rw [i2 y hy, beq_iff_eq]
  exact ck_rp_N (ck_N_inv hG hA hy hk (ck_N_is A G (A y k)))
/-- the number of codes that leave x divides the order -/
theorem ck_orb {e : Nat} {M A : Nat → Nat → Nat} {G X : List Nat} (hG : ck_Gg e M G) (hA : ck_Ac e M A G X) {x : Nat} (hx : x ∈ X) :
    G.countP (fun g => A x g == x) ∣ G.length := by
  have s1 : G.length = ck_ls (fun g => X.countP (fun y => A x g == y)) G := by
    have : ck_ls (fun g => X.countP (fun y => A x g == y)) G = ck_ls (fun _ => 1) G := by
      apply ck_ls_congr
      intro g hg
      have h1 : X.countP (fun y => A x g == y) = X.count (A x g) := by
        rw [List.count_eq_countP]
        apply List.countP_congr
        intro y _
        rw [beq_iff_eq, beq_iff_eq]
        exact eq_comm
      rw [h1, hA.1.count, if_pos (hA.2.1 x hx g hg)]
    rw [this, ck_ls_const, Nat.mul_one]
  rw [ck_ls_swap (fun g y => A x g == y) G X] at s1
  rw [s1]
  apply ck_ls_dvd
  intro y hy
  by_cases hex : ∃ h, h ∈ G ∧ A x h = y
  · obtain ⟨h, hh, e1⟩ := hex
    rw [← e1, ck_stab hG hA hx hh]
    exact Nat.dvd_refl _
  · have h0 : G.countP (fun g => A x g == y) = 0 := by
      rw [List.countP_eq_zero]
      intro g hg t
      exact hex ⟨g, hg, by simpa using t⟩
    rw [h0]
    exact Nat.dvd_zero _
end
section
/-! part 2: rearrangements of six places as codes, colourings as numbers -/
def ck_im (g i : Nat) : Nat := g / 8 ^ i % 8
def ck_su (f : Nat → Nat) : Nat → Nat
  | 0 => 0
  | n + 1 => ck_su f n + f n
def ck_enc (f : Nat → Nat) : Nat := ck_su (fun i => f i * 8 ^ i) 6
def ck_P (g : Nat) : Prop := g < 262144 ∧ (∀ i, i < 6 → ck_im g i < 6) ∧ (∀ i, i < 6 → ∀ j, j < 6 → ck_im g i = ck_im g j → i = j)
def ck_mul (g h : Nat) : Nat := ck_enc (fun i => ck_im h (ck_im g i))
def ck_id : Nat := 181896
theorem ck_l6 {i : Nat} (h : i < 6) : i = 0 ∨ i = 1 ∨ i = 2 ∨ i = 3 ∨ i = 4 ∨ i = 5 := by omega
theorem ck_su_congr {f g : Nat → Nat} {n : Nat} (h : ∀ i, i < n → f i = g i) : ck_su f n = ck_su g n := by
  induction n with
  | zero => rfl
  | succ n ih =>
    show ck_su f n + f n = ck_su g n + g n
    rw [ih (fun i hi => h i (by omega)), h n (by omega)]
theorem ck_su_ls (f : Nat → Nat) (n : Nat) : ck_su f n = ck_ls f (List.range n) := by
  induction n with
  | zero => rfl
  | succ n ih =>
    rw [List.range_succ, ck_ls_app, ← ih]
    rfl
theorem ck_su_le {f g : Nat → Nat} {n : Nat} (h : ∀ i, i < n → f i ≤ g i) : ck_su f n ≤ ck_su g n := by
  induction n with
  | zero => exact Nat.le_refl _
  | succ n ih => exact Nat.add_le_add (ih (fun i hi => h i (by omega))) (h n (by omega))
theorem ck_enc_e (f : Nat → Nat) : ck_enc f = f 0 + f 1 * 8 + f 2 * 64 + f 3 * 512 + f 4 * 4096 + f 5 * 32768 := by
  simp [ck_enc, ck_su]
theorem ck_im_lt8 (g i : Nat) : ck_im g i < 8 := Nat.mod_lt _ (by decide)
theorem ck_im_enc {f : Nat → Nat} (h : ∀ i, i < 6 → f i < 8) {i : Nat} (hi : i < 6) : ck_im (ck_enc f) i = f i := by
  rw [ck_enc_e]
  have h0 := h 0 (by omega)
  have h1 := h 1 (by omega)
  have h2 := h 2 (by omega)
  have h3 := h 3 (by omega)
  have h4 := h 4 (by omega)
  have h5 := h 5 (by omega)
  unfold ck_im
  rcases ck_l6 hi with rfl | rfl | rfl | rfl | rfl | rfl <;> simp only [Nat.reducePow] <;> omega
theorem ck_enc_lt {f : Nat → Nat} (h : ∀ i, i < 6 → f i < 8) : ck_enc f < 262144 := by
  rw [ck_enc_e]
  have h0 := h 0 (by omega)
  have h1 := h 1 (by omega)
  have h2 := h 2 (by omega)
  have h3 := h 3 (by omega)
  have h4 := h 4 (by omega)
  have h5 := h 5 (by omega)
  omega
theorem ck_enc_im {g : Nat} (h : g < 262144) : ck_enc (ck_im g) = g := by
  rw [ck_enc_e]
  unfold ck_im
  simp only [Nat.reducePow]
  omega
theorem ck_ext {g h : Nat} (hg : g < 262144) (hh : h < 262144) (e : ∀ i, i < 6 → ck_im g i = ck_im h i) : g = h := by
  have a := ck_enc_im hg
  have b := ck_enc_im hh
  rw [ck_enc_e] at a b
  have e0 := e 0 (by omega)
  have e1 := e 1 (by omega)
  have e2 := e 2 (by omega)
  have e3 := e 3 (by omega)
  have e4 := e 4 (by omega)
  have e5 := e 5 (by omega)
  omega
theorem ck_mul_im {g h i : Nat} (hi : i < 6) : ck_im (ck_mul g h) i = ck_im h (ck_im g i) :=
  ck_im_enc (f := fun i => ck_im h (ck_im g i)) (fun i _ => ck_im_lt8 _ _) hi
theorem ck_mul_lt (g h : Nat) : ck_mul g h < 262144 := ck_enc_lt (fun i _ => ck_im_lt8 _ _)
theorem ck_mul_P {g h : Nat} (hg : ck_P g) (hh : ck_P h) : ck_P (ck_mul g h) := by
  refine ⟨ck_mul_lt g h, fun i hi => ?_, fun i hi j hj e => ?_⟩
  · rw [ck_mul_im hi]
    exact hh.2.1 _ (hg.2.1 i hi)
  · rw [ck_mul_im hi, ck_mul_im hj] at e
    exact hg.2.2 i hi j hj (hh.2.2 _ (hg.2.1 i hi) _ (hg.2.1 j hj) e)
theorem ck_assoc {g h k : Nat} (hg : ck_P g) : ck_mul (ck_mul g h) k = ck_mul g (ck_mul h k) := by
  refine ck_ext (ck_mul_lt _ _) (ck_mul_lt _ _) (fun i hi => ?_)
  rw [ck_mul_im hi, ck_mul_im hi, ck_mul_im hi, ck_mul_im (hg.2.1 i hi)]
theorem ck_id_im : ∀ i, i < 6 → ck_im ck_id i = i := by decide
theorem ck_id_P : ck_P ck_id := by
  refine ⟨by decide, fun i hi => ?_, fun i hi j hj e => ?_⟩
  · rw [ck_id_im i hi]
    exact hi
  · rw [ck_id_im i hi, ck_id_im j hj] at e
    exact e
theorem ck_mul_id {g : Nat} (hg : ck_P g) : ck_mul g ck_id = g := by
  refine ck_ext (ck_mul_lt _ _) hg.1 (fun i hi => ?_)
  rw [ck_mul_im hi, ck_id_im _ (hg.2.1 i hi)]
theorem ck_id_mul {g : Nat} (hg : ck_P g) : ck_mul ck_id g = g := by
  refine ck_ext (ck_mul_lt _ _) hg.1 (fun i hi => ?_)
  rw [ck_mul_im hi, ck_id_im i hi]
theorem ck_rcan {a b h : Nat} (ha : ck_P a) (hb : ck_P b) (hh : ck_P h) (e : ck_mul a h = ck_mul b h) : a = b := by
  refine ck_ext ha.1 hb.1 (fun i hi => ?_)
  have t : ck_im (ck_mul a h) i = ck_im (ck_mul b h) i := by rw [e]
  rw [ck_mul_im hi, ck_mul_im hi] at t
  exact hh.2.2 _ (ha.2.1 i hi) _ (hb.2.1 i hi) t
theorem ck_pp {g : Nat} (hg : ck_P g) : ((List.range 6).map (ck_im g)).Perm (List.range 6) :=
  ck_perm List.nodup_range (fun x hx => List.mem_range.mpr (hg.2.1 x (List.mem_range.mp hx)))
    (fun x hx y hy => hg.2.2 x (List.mem_range.mp hx) y (List.mem_range.mp hy))
theorem ck_surj {g : Nat} (hg : ck_P g) {j : Nat} (hj : j < 6) : ∃ i, i < 6 ∧ ck_im g i = j := by
  have h := (ck_pp hg).mem_iff.mpr (List.mem_range.mpr hj)
  obtain ⟨i, hi, e⟩ := List.mem_map.mp h
  exact ⟨i, List.mem_range.mp hi, e⟩
theorem ck_su_perm {g : Nat} (hg : ck_P g) (F : Nat → Nat) : ck_su (fun i => F (ck_im g i)) 6 = ck_su F 6 := by
  rw [ck_su_ls, ck_su_ls, ← ck_ls_map]
  exact ck_ls_perm (ck_pp hg)
/-! groups of codes -/
def ck_Gr (G : List Nat) : Prop := G.Nodup ∧ (∀ g, g ∈ G → ck_P g) ∧ ck_id ∈ G ∧ (∀ g, g ∈ G → ∀ h, h ∈ G → ck_mul g h ∈ G)
theorem ck_Gr_g {G : List Nat} (h : ck_Gr G) : ck_Gg ck_id ck_mul G :=
  ⟨h.1, h.2.2.1, h.2.2.2, fun k hk a ha b hb e => ck_rcan (h.2.1 a ha) (h.2.1 b hb) (h.2.1 k hk) e⟩
/-- a product of generators -/
def ck_W (gs : List Nat) (g : Nat) : Prop := ∃ w : List Nat, (∀ k, k ∈ w → k ∈ gs) ∧ g = w.foldl ck_mul ck_id
/-- the list of a group made by generators -/
def ck_G (gs G : List Nat) : Prop := G.Nodup ∧ (∀ g, g ∈ G → ck_P g) ∧ ck_id ∈ G ∧ (∀ g, g ∈ G → ∀ k, k ∈ gs → ck_mul g k ∈ G) ∧ (∀ g, g ∈ G → ck_W gs g)
theorem ck_W_id (gs : List Nat) : ck_W gs ck_id := ⟨[], fun k hk => absurd hk (by simp), rfl⟩
theorem ck_W_mul {gs : List Nat} {g k : Nat} (h : ck_W gs g) (hk : k ∈ gs) : ck_W gs (ck_mul g k) := by
  obtain ⟨w, h1, h2⟩ := h
  refine ⟨w ++ [k], fun x hx => ?_, ?_⟩
  · rcases List.mem_append.mp hx with hx | hx
    · exact h1 x hx
    · have e : x = k := by simpa using hx
      rw [e]
      exact hk
  · rw [List.foldl_append, ← h2]
    rfl
theorem ck_W_mono {gs gs' : List Nat} (hs : ∀ k, k ∈ gs → k ∈ gs') {g : Nat} (h : ck_W gs g) : ck_W gs' g := by
  obtain ⟨w, h1, h2⟩ := h
  exact ⟨w, fun k hk => hs k (h1 k hk), h2⟩
theorem ck_G_fold {gs G : List Nat} (h : ck_G gs G) (w : List Nat) : ∀ g, g ∈ G → (∀ k, k ∈ w → k ∈ gs) → w.foldl ck_mul g ∈ G := by
  induction w with
  | nil => exact fun g hg _ => hg
  | cons a w ih =>
    intro g hg hw
    exact ih (ck_mul g a) (h.2.2.2.1 g hg a (hw a List.mem_cons_self)) (fun k hk => hw k (List.mem_cons_of_mem _ hk))
theorem ck_G_mem {gs G : List Nat} (h : ck_G gs G) {g : Nat} (hw : ck_W gs g) : g ∈ G := by
  obtain ⟨w, h1, h2⟩ := hw
  rw [h2]
  exact ck_G_fold h w ck_id h.2.2.1 h1
theorem ck_fold_mul {gs : List Nat} (hp : ∀ k, k ∈ gs → ck_P k) (w : List Nat) : ∀ g a, ck_P g → ck_P a → (∀ k, k ∈ w → k ∈ gs) → ck_mul g (w.foldl ck_mul a) = w.foldl ck_mul (ck_mul g a) := by
  induction w with
  | nil => exact fun g a _ _ _ => rfl
  | cons k w ih =>
    intro g a hg ha hw
    have hk := hp k (hw k List.mem_cons_self)
    show ck_mul g (w.foldl ck_mul (ck_mul a k)) = w.foldl ck_mul (ck_mul (ck_mul g a) k)
    rw [ih g (ck_mul a k) hg (ck_mul_P ha hk) (fun x hx => hw x (List.mem_cons_of_mem _ hx)), ck_assoc hg]
theorem ck_G_Gr {gs G : List Nat} (hp : ∀ k, k ∈ gs → ck_P k) (h : ck_G gs G) : ck_Gr G := by
  refine ⟨h.1, h.2.1, h.2.2.1, fun g hg k hk => ?_⟩
  obtain ⟨w, h1, h2⟩ := h.2.2.2.2 k hk
  rw [h2, ck_fold_mul hp w g ck_id (h.2.1 g hg) ck_id_P h1, ck_mul_id (h.2.1 g hg)]
  exact ck_G_fold h w g hg h1
/-! colourings -/
def ck_ok (c : Nat) : Prop := c = 1 ∨ c = 2 ∨ c = 3
def ck_dg (c x i : Nat) : Nat := x / c ^ i % c
def ck_ec (c : Nat) (f : Nat → Nat) : Nat := ck_su (fun i => f i * c ^ i) 6
def ck_act (c x g : Nat) : Nat := ck_su (fun i => ck_dg c x i * c ^ ck_im g i) 6
theorem ck_ok_pos {c : Nat} (h : ck_ok c) : 0 < c := by
  rcases h with e | e | e <;> omega
theorem ck_dg_lt {c : Nat} (h : ck_ok c) (x i : Nat) : ck_dg c x i < c := Nat.mod_lt _ (ck_ok_pos h)
theorem ck_ec_e (c : Nat) (f : Nat → Nat) : ck_ec c f = f 0 * c ^ 0 + f 1 * c ^ 1 + f 2 * c ^ 2 + f 3 * c ^ 3 + f 4 * c ^ 4 + f 5 * c ^ 5 := by
  simp [ck_ec, ck_su]
theorem ck_dg_ec {c : Nat} (hc : ck_ok c) {f : Nat → Nat} (h : ∀ i, i < 6 → f i < c) {i : Nat} (hi : i < 6) : ck_dg c (ck_ec c f) i = f i := by
  rw [ck_ec_e]
  have h0 := h 0 (by omega)
  have h1 := h 1 (by omega)
  have h2 := h 2 (by omega)
  have h3 := h 3 (by omega)
  have h4 := h 4 (by omega)
  have h5 := h 5 (by omega)
  unfold ck_dg
  rcases hc with rfl | rfl | rfl
  · rw [Nat.mod_one]
    rcases ck_l6 hi with rfl | rfl | rfl | rfl | rfl | rfl <;> omega
  · rcases ck_l6 hi with rfl | rfl | rfl | rfl | rfl | rfl <;> simp only [Nat.reducePow] <;> omega
  · rcases ck_l6 hi with rfl | rfl | rfl | rfl | rfl | rfl <;> simp only [Nat.reducePow] <;> omega
theorem ck_ec_lt {c : Nat} (hc : ck_ok c) {f : Nat → Nat} (h : ∀ i, i < 6 → f i < c) : ck_ec c f < c ^ 6 := by
  rw [ck_ec_e]
  have h0 := h 0 (by omega)
  have h1 := h 1 (by omega)
  have h2 := h 2 (by omega)
  have h3 := h 3 (by omega)
  have h4 := h 4 (by omega)
  have h5 := h 5 (by omega)
  rcases hc with rfl | rfl | rfl <;> simp only [Nat.reducePow] <;> omega
theorem ck_ec_dg {c : Nat} (hc : ck_ok c) {x : Nat} (h : x < c ^ 6) : ck_ec c (ck_dg c x) = x := by
  rw [ck_ec_e]
  unfold ck_dg
  rcases hc with rfl | rfl | rfl <;> simp only [Nat.reducePow] at h ⊢ <;> omega
theorem ck_cext {c : Nat} (hc : ck_ok c) {x y : Nat} (hx : x < c ^ 6) (hy : y < c ^ 6) (e : ∀ i, i < 6 → ck_dg c x i = ck_dg c y i) : x = y := by
  have a := ck_ec_dg hc hx
  have b := ck_ec_dg hc hy
  have t : ck_ec c (ck_dg c x) = ck_ec c (ck_dg c y) := ck_su_congr (fun i hi => by rw [e i hi])
  rw [← a, t, b]
theorem ck_act_ec {c g : Nat} (hg : ck_P g) (x : Nat) : ∃ f : Nat → Nat, (∀ i, i < 6 → f (ck_im g i) = ck_dg c x i) ∧ (∀ j, j < 6 → ∃ i, f j = ck_dg c x i) ∧ ck_act c x g = ck_ec c f := by
  have hs : ∀ j : Nat, ∃ i : Nat, j < 6 → i < 6 ∧ ck_im g i = j := by
    intro j
    by_cases hj : j < 6
    · obtain ⟨i, hi, e⟩ := ck_surj hg hj
      exact ⟨i, fun _ => ⟨hi, e⟩⟩
    · exact ⟨0, fun h => absurd h hj⟩
  obtain ⟨gi, hgi⟩ := Classical.axiomOfChoice hs
  have hb : ∀ i, i < 6 → gi (ck_im g i) = i := by
    intro i hi
    obtain ⟨h1, h2⟩ := hgi (ck_im g i) (hg.2.1 i hi)
    exact hg.2.2 _ h1 i hi h2
  refine ⟨fun j => ck_dg c x (gi j), fun i hi => by dsimp only; rw [hb i hi], fun j _ => ⟨gi j, rfl⟩, ?_⟩
  show ck_su (fun i => ck_dg c x i * c ^ ck_im g i) 6 = ck_su (fun j => ck_dg c x (gi j) * c ^ j) 6
  rw [← ck_su_perm hg (fun j => ck_dg c x (gi j) * c ^ j)]
  exact ck_su_congr (fun i hi => by rw [hb i hi])
theorem ck_act_lt {c g : Nat} (hc : ck_ok c) (hg : ck_P g) (x : Nat) : ck_act c x g < c ^ 6 := by
  obtain ⟨f, _, h2, e⟩ := ck_act_ec (c := c) hg x
  rw [e]
  refine ck_ec_lt hc (fun j hj => ?_)
  obtain ⟨i, t⟩ := h2 j hj
  rw [t]
  exact ck_dg_lt hc x i
theorem ck_act_dg {c g : Nat} (hc : ck_ok c) (hg : ck_P g) (x : Nat) {i : Nat} (hi : i < 6) : ck_dg c (ck_act c x g) (ck_im g i) = ck_dg c x i := by
  obtain ⟨f, h1, h2, e⟩ := ck_act_ec (c := c) hg x
  rw [e, ck_dg_ec hc (fun j hj => ?_) (hg.2.1 i hi), h1 i hi]
  obtain ⟨i, t⟩ := h2 j hj
  rw [t]
  exact ck_dg_lt hc x i
theorem ck_act_mul {c g h : Nat} (hc : ck_ok c) (hg : ck_P g) (hh : ck_P h) (x : Nat) : ck_act c (ck_act c x g) h = ck_act c x (ck_mul g h) := by
  have hm := ck_mul_P hg hh
  refine ck_cext hc (ck_act_lt hc hh _) (ck_act_lt hc hm _) (fun j hj => ?_)
  obtain ⟨i, hi, e⟩ := ck_surj hm hj
  rw [← e, ck_act_dg hc hm x hi, ck_mul_im hi, ck_act_dg hc hh _ (hg.2.1 i hi), ck_act_dg hc hg x hi]
theorem ck_act_id {c : Nat} (hc : ck_ok c) {x : Nat} (hx : x < c ^ 6) : ck_act c x ck_id = x := by
  refine ck_cext hc (ck_act_lt hc ck_id_P _) hx (fun j hj => ?_)
  have t := ck_act_dg hc ck_id_P x hj
  rw [ck_id_im j hj] at t
  exact t
theorem ck_act_fix {c g : Nat} (hc : ck_ok c) (hg : ck_P g) {x : Nat} (hx : x < c ^ 6) : ck_act c x g = x ↔ ∀ i, i < 6 → ck_dg c x (ck_im g i) = ck_dg c x i := by
  constructor
  · intro e i hi
    have t := ck_act_dg hc hg x hi
    rw [e] at t
    exact t
  · intro h
    refine ck_cext hc (ck_act_lt hc hg _) hx (fun j hj => ?_)
    obtain ⟨i, hi, e⟩ := ck_surj hg hj
    rw [← e, ck_act_dg hc hg x hi, h i hi]
/-- how many places have colour d -/
def ck_ct (c d x : Nat) : Nat := (List.range 6).countP (fun i => ck_dg c x i == d)
theorem ck_ct_act {c g : Nat} (hc : ck_ok c) (hg : ck_P g) (d x : Nat) : ck_ct c d (ck_act c x g) = ck_ct c d x := by
  unfold ck_ct
  rw [← ck_cnt (f := ck_im g) (fun j => ck_dg c (ck_act c x g) j == d) List.nodup_range (fun x hx => List.mem_range.mpr (hg.2.1 x (List.mem_range.mp hx)))
    (fun x hx y hy => hg.2.2 x (List.mem_range.mp hx) y (List.mem_range.mp hy))]
  apply List.countP_congr
  intro i hi
  rw [ck_act_dg hc hg x (List.mem_range.mp hi)]
theorem ck_ct_le (c x : Nat) : ck_ct c 0 x + ck_ct c 1 x ≤ 6 := by
  have h := List.length_eq_countP_add_countP (fun i => ck_dg c x i == 0) (l := List.range 6)
  have h2 : ck_ct c 1 x ≤ (List.range 6).countP (fun i => ¬ (ck_dg c x i == 0)) := by
    apply List.countP_mono_left
    intro i _ t
    have t' : ck_dg c x i = 1 := by simpa using t
    simp [t']
  rw [List.length_range] at h
  unfold ck_ct at h2 ⊢
  omega
theorem ck_Ac_c {c : Nat} (hc : ck_ok c) {G : List Nat} (hG : ck_Gr G) (q : Nat → Bool) (hq : ∀ x, x < c ^ 6 → ∀ g, ck_P g → q (ck_act c x g) = q x) :
    ck_Ac ck_id ck_mul (ck_act c) G ((List.range (c ^ 6)).filter q) := by
  refine ⟨List.nodup_range.filter _, fun x hx g hg => ?_, fun x hx => ?_, fun x hx g hg h hh => ck_act_mul hc (hG.2.1 g hg) (hG.2.1 h hh) x⟩
  · obtain ⟨h1, h2⟩ := List.mem_filter.mp hx
    exact List.mem_filter.mpr ⟨List.mem_range.mpr (ck_act_lt hc (hG.2.1 g hg) x), by rw [hq x (List.mem_range.mp h1) g (hG.2.1 g hg)]; exact h2⟩
  · exact ck_act_id hc (List.mem_range.mp (List.mem_filter.mp hx).1)
theorem ck_Ac_x {c : Nat} (hc : ck_ok c) {G : List Nat} (hG : ck_Gr G) : ck_Ac ck_id ck_mul (ck_act c) G (List.range (c ^ 6)) :=
  ⟨List.nodup_range, fun x _ g hg => List.mem_range.mpr (ck_act_lt hc (hG.2.1 g hg) x), fun x hx => ck_act_id hc (List.mem_range.mp hx), fun x _ g hg h hh => ck_act_mul hc (hG.2.1 g hg) (hG.2.1 h hh) x⟩
theorem ck_Ac_p {G : List Nat} (hG : ck_Gr G) : ck_Ac ck_id ck_mul (fun i g => ck_im g i) G (List.range 6) :=
  ⟨List.nodup_range, fun x hx g hg => List.mem_range.mpr ((hG.2.1 g hg).2.1 x (List.mem_range.mp hx)), fun x hx => ck_id_im x (List.mem_range.mp hx), fun x hx g _ h _ => (ck_mul_im (List.mem_range.mp hx)).symm⟩
end
section
/-! part 3: the shape of a rearrangement, the ways to colour, and tables by the kernel (the table rows printed by wip/D-10317/gen/tab.py) -/
def ck_all (f : Nat → Bool) : Nat → Bool
  | 0 => true
  | n + 1 => ck_all f n && f n
theorem ck_all_ok {f : Nat → Bool} {n : Nat} (h : ck_all f n = true) : ∀ i, i < n → f i = true := by
  induction n with
  | zero => exact fun i hi => absurd hi (by omega)
  | succ n ih =>
    have h2 : (ck_all f n && f n) = true := h
    rw [Bool.and_eq_true] at h2
    intro i hi
    by_cases e : i = n
    · rw [e]
      exact h2.2
    · exact ih h2.1 i (by omega)
/-- along a cycle from place a: which places are seen, how many there were -/
def ck_cy (g : Nat) : Nat → Nat → Nat → Nat → Nat × Nat
  | 0, s, l, _ => (s, l)
  | k + 1, s, l, a => if s / 2 ^ a % 2 = 0 then ck_cy g k (s ||| 2 ^ a) (l + 1) (ck_im g a) else (s, l)
def ck_sl (l : Nat) : Nat := if l = 0 then 0 else 2 ^ (4 * l - 4)
def ck_so (g : Nat) : Nat → Nat × Nat
  | 0 => (0, 0)
  | i + 1 => match ck_so g i with
    | (s, o) => match ck_cy g 6 s 0 i with
      | (s', l) => (s', o + ck_sl l)
def ck_sh (g : Nat) : Nat := (ck_so g 6).2
/-- the cycles of a length, all cycles, of a shape -/
def ck_cc (s l : Nat) : Nat := s / 2 ^ (4 * l - 4) % 16
def ck_ac (s : Nat) : Nat := ck_su (fun l => ck_cc s (l + 1)) 6
/-- ways to colour: one cycle more -/
def ck_T (c l : Nat) (w : Nat → Nat) (j : Nat) : Nat := (if c = 3 then w j else 0) + (if l ≤ j / 7 then w (j - 7 * l) else 0) + (if 1 < c ∧ l ≤ j % 7 then w (j - l) else 0)
def ck_TT (c l : Nat) (w : Nat → Nat) : Nat → Nat → Nat
  | 0 => w
  | n + 1 => ck_T c l (ck_TT c l w n)
def ck_LL (c s : Nat) : Nat → Nat → Nat
  | 0 => fun j => if j = 0 then 1 else 0
  | l + 1 => ck_TT c (l + 1) (ck_LL c s l) (ck_cc s (l + 1))
def ck_shapes : List Nat := [6, 20, 34, 48, 259, 273, 512, 4098, 4112, 65537, 1048576]
def ck_rep (s : Nat) : Nat := (bif Nat.beq s 6 then 181896 else (bif Nat.beq s 20 then 153224 else (bif Nat.beq s 34 then 152776 else (bif Nat.beq s 48 then 152769 else (bif Nat.beq s 259 then 120968 else (bif Nat.beq s 273 then 120912 else (bif Nat.beq s 512 then 120849 else (bif Nat.beq s 4098 then 88264 else (bif Nat.beq s 4112 then 88257 else (bif Nat.beq s 65537 then 55504 else (bif Nat.beq s 1048576 then 22737 else 0)))))))))))
def ck_h0 (g : Nat) : Nat := (bif Nat.ble 6931 g then (bif Nat.ble 10025 g then (bif Nat.ble 10473 g then (bif Nat.ble 10844 g then (bif Nat.ble 10851 g then (bif Nat.ble 10956 g then 177409 else 82776) else 176800) else (bif Nat.ble 10571 g then (bif Nat.ble 10585 g then 174280 else 174273) else 144712)) else (bif Nat.ble 10333 g then (bif Nat.ble 10347 g then (bif Nat.ble 10445 g then 144705 else 169240) else 83560) else (bif Nat.ble 10060 g then (bif Nat.ble 10081 g then 174147 else 174105) else 168211))) else (bif Nat.ble 9003 g then (bif Nat.ble 9829 g then (bif Nat.ble 9836 g then (bif Nat.ble 9997 g then 141849 else 169219) else 82755) else (bif Nat.ble 9052 g then (bif Nat.ble 9059 g then 174168 else 174105) else 169506)) else (bif Nat.ble 8933 g then (bif Nat.ble 8940 g then (bif Nat.ble 8989 g then 140904 else 169632) else 108648) else (bif Nat.ble 6938 g then 176912 else 140120)))) else (bif Nat.ble 5986 g then (bif Nat.ble 6483 g then (bif Nat.ble 6819 g then (bif Nat.ble 6868 g then (bif Nat.ble 6882 g then 177185 else 177248) else 176394) else (bif Nat.ble 6490 g then (bif Nat.ble 6812 g then 176898 else 144208) else 172824)) else (bif Nat.ble 6315 g then (bif Nat.ble 6357 g then (bif Nat.ble 6378 g then 170192 else 144488) else 170178) else (bif Nat.ble 6301 g then 144194 else 172299))) else (bif Nat.ble 5475 g then (bif Nat.ble 5909 g then (bif Nat.ble 5930 g then (bif Nat.ble 5972 g then 172803 else 170115) else 140099) else (bif Nat.ble 5797 g then (bif Nat.ble 5804 g then 170010 else 137754) else 173601)) else (bif Nat.ble 5405 g then (bif Nat.ble 5419 g then (bif Nat.ble 5468 g then 173664 else 170136) else 140904) else (bif Nat.ble 5356 g then 170010 else 108648)))))
def ck_h1 (g : Nat) : Nat := (bif Nat.ble 14946 g then (bif Nat.ble 17501 g then (bif Nat.ble 18005 g then (bif Nat.ble 18089 g then (bif Nat.ble 18250 g then (bif Nat.ble 18257 g then 172579 else 172313) else 168218) else (bif Nat.ble 18026 g then (bif Nat.ble 18061 g then 166097 else 168995) else 72227)) else (bif Nat.ble 17641 g then (bif Nat.ble 17739 g then (bif Nat.ble 17753 g then 173636 else 173601) else 168148) else (bif Nat.ble 17515 g then (bif Nat.ble 17613 g then 109089 else 169156) else 78660))) else (bif Nat.ble 17053 g then (bif Nat.ble 17130 g then (bif Nat.ble 17235 g then (bif Nat.ble 17242 g then 172236 else 172740) else 169604) else (bif Nat.ble 17067 g then (bif Nat.ble 17109 g then 107332 else 169506) else 104994)) else (bif Nat.ble 15009 g then (bif Nat.ble 15114 g then (bif Nat.ble 15121 g then 178312 else 178305) else 178242) else (bif Nat.ble 14988 g then 178193 else 178256)))) else (bif Nat.ble 13581 g then (bif Nat.ble 14442 g then (bif Nat.ble 14666 g then (bif Nat.ble 14673 g then (bif Nat.ble 14932 g then 178193 else 172579) else 172313) else (bif Nat.ble 14477 g then (bif Nat.ble 14505 g then 168218 else 145937) else 168995)) else (bif Nat.ble 13644 g then (bif Nat.ble 13665 g then (bif Nat.ble 14421 g then 144488 else 173832) else 173825) else (bif Nat.ble 13609 g then 116040 else 116033))) else (bif Nat.ble 13077 g then (bif Nat.ble 13154 g then (bif Nat.ble 13413 g then (bif Nat.ble 13420 g then 169184 else 79976) else 115536) else (bif Nat.ble 13098 g then (bif Nat.ble 13140 g then 172768 else 169744) else 115816)) else (bif Nat.ble 11033 g then (bif Nat.ble 12965 g then (bif Nat.ble 12972 g then 169730 else 115522) else 176674) else (bif Nat.ble 11019 g then 176401 else 177416)))))
def ck_h2 (g : Nat) : Nat := (bif Nat.ble 22282 g then (bif Nat.ble 34091 g then (bif Nat.ble 34602 g then (bif Nat.ble 34973 g then (bif Nat.ble 34987 g then (bif Nat.ble 35029 g then 144488 else 143690) else 144194) else (bif Nat.ble 34644 g then (bif Nat.ble 34658 g then 137859 else 172803) else 139595)) else (bif Nat.ble 34469 g then (bif Nat.ble 34476 g then (bif Nat.ble 34581 g then 140099 else 170010) else 137754) else (bif Nat.ble 34140 g then (bif Nat.ble 34147 g then 137880 else 173664) else 140841))) else (bif Nat.ble 22681 g then (bif Nat.ble 34021 g then (bif Nat.ble 34028 g then (bif Nat.ble 34077 g then 140904 else 109152) else 137754) else (bif Nat.ble 22730 g then (bif Nat.ble 22737 g then 181896 else 181889) else 181826)) else (bif Nat.ble 22611 g then (bif Nat.ble 22618 g then (bif Nat.ble 22667 g then 181777 else 181840) else 181777) else (bif Nat.ble 22289 g then 181315 else 181273)))) else (bif Nat.ble 21274 g then (bif Nat.ble 21771 g then (bif Nat.ble 22114 g then (bif Nat.ble 22156 g then (bif Nat.ble 22177 g then 180762 else 180433) else 180867) else (bif Nat.ble 21785 g then (bif Nat.ble 22100 g then 180363 else 181448) else 181441)) else (bif Nat.ble 21603 g then (bif Nat.ble 21708 g then (bif Nat.ble 21729 g then 180762 else 180433) else 180888) else (bif Nat.ble 21596 g then 78688 else 181273))) else (bif Nat.ble 19153 g then (bif Nat.ble 21204 g then (bif Nat.ble 21218 g then (bif Nat.ble 21267 g then 181336 else 180944) else 107360) else (bif Nat.ble 21148 g then (bif Nat.ble 21155 g then 180930 else 180426) else 177220)) else (bif Nat.ble 19083 g then (bif Nat.ble 19097 g then (bif Nat.ble 19146 g then 177185 else 176674) else 176401) else (bif Nat.ble 19034 g then 176772 else 176268)))))
def ck_h3 (g : Nat) : Nat := (bif Nat.ble 43051 g then (bif Nat.ble 45221 g then (bif Nat.ble 46117 g then (bif Nat.ble 46376 g then (bif Nat.ble 46404 g then (bif Nat.ble 46432 g then 173832 else 54496) else 116040) else (bif Nat.ble 46124 g then (bif Nat.ble 46341 g then 115816 else 79913) else 79976)) else (bif Nat.ble 45354 g then (bif Nat.ble 45396 g then (bif Nat.ble 45410 g then 115536 else 172768) else 115753) else (bif Nat.ble 45228 g then (bif Nat.ble 45333 g then 115816 else 115018) else 115522))) else (bif Nat.ble 43548 g then (bif Nat.ble 43744 g then (bif Nat.ble 43779 g then (bif Nat.ble 43800 g then 176912 else 54818) else 177416) else (bif Nat.ble 43555 g then (bif Nat.ble 43716 g then 54944 else 82776) else 176800)) else (bif Nat.ble 43240 g then (bif Nat.ble 43331 g then (bif Nat.ble 43352 g then 174280 else 54552) else 144712) else (bif Nat.ble 43205 g then 144488 else 83497)))) else (bif Nat.ble 41245 g then (bif Nat.ble 42540 g then (bif Nat.ble 42820 g then (bif Nat.ble 42848 g then (bif Nat.ble 43037 g then 83560 else 174168) else 54531) else (bif Nat.ble 42757 g then (bif Nat.ble 42792 g then 141912 else 53523) else 82251)) else (bif Nat.ble 41308 g then (bif Nat.ble 41315 g then (bif Nat.ble 42533 g then 82755 else 174168) else 105120) else (bif Nat.ble 41259 g then 141912 else 104994))) else (bif Nat.ble 35540 g then (bif Nat.ble 35610 g then (bif Nat.ble 41189 g then (bif Nat.ble 41196 g then 108585 else 108648) else 176912) else (bif Nat.ble 35554 g then (bif Nat.ble 35603 g then 140120 else 137936) else 177248)) else (bif Nat.ble 35162 g then (bif Nat.ble 35484 g then (bif Nat.ble 35491 g then 137922 else 176898) else 144208) else (bif Nat.ble 35155 g then 172824 else 144425)))))
def ck_h4 (g : Nat) : Nat := (bif Nat.ble 50499 g then (bif Nat.ble 51864 g then (bif Nat.ble 53474 g then (bif Nat.ble 54300 g then (bif Nat.ble 54307 g then (bif Nat.ble 54468 g then 55322 else 180888) else 78688) else (bif Nat.ble 53523 g then (bif Nat.ble 53530 g then 105232 else 181336) else 180944)) else (bif Nat.ble 53404 g then (bif Nat.ble 53411 g then (bif Nat.ble 53460 g then 107360 else 180930) else 105218) else (bif Nat.ble 51906 g then (bif Nat.ble 51920 g then 177248 else 54916) else 176912))) else (bif Nat.ble 50856 g then (bif Nat.ble 51731 g then (bif Nat.ble 51738 g then (bif Nat.ble 51843 g then 54818 else 176772) else 72388) else (bif Nat.ble 51010 g then (bif Nat.ble 51024 g then 172824 else 54307) else 170192)) else (bif Nat.ble 50709 g then (bif Nat.ble 50730 g then (bif Nat.ble 50821 g then 53530 else 168995) else 72227) else (bif Nat.ble 50520 g then 173664 else 54468)))) else (bif Nat.ble 47888 g then (bif Nat.ble 49491 g then (bif Nat.ble 50219 g then (bif Nat.ble 50373 g then (bif Nat.ble 50408 g then 109152 else 53460) else 78156) else (bif Nat.ble 49498 g then (bif Nat.ble 50205 g then 78660 else 105092) else 172740)) else (bif Nat.ble 49323 g then (bif Nat.ble 49365 g then (bif Nat.ble 49386 g then 106828 else 107332) else 169506) else (bif Nat.ble 49309 g then 104994 else 178312))) else (bif Nat.ble 47440 g then (bif Nat.ble 47748 g then (bif Nat.ble 47776 g then (bif Nat.ble 47874 g then 55056 else 178256) else 55042) else (bif Nat.ble 47636 g then (bif Nat.ble 47650 g then 178256 else 72416) else 172824)) else (bif Nat.ble 47237 g then (bif Nat.ble 47272 g then (bif Nat.ble 47426 g then 54307 else 146000) else 53530) else (bif Nat.ble 47146 g then 146000 else 72227)))))
def ck_h5 (g : Nat) : Nat := (bif Nat.ble 67180 g then (bif Nat.ble 68188 g then (bif Nat.ble 69861 g then (bif Nat.ble 69931 g then (bif Nat.ble 69980 g then (bif Nat.ble 69987 g then 174168 else 104490) else 141912) else (bif Nat.ble 69868 g then (bif Nat.ble 69917 g then 104616 else 109152) else 109089)) else (bif Nat.ble 68321 g then (bif Nat.ble 68363 g then (bif Nat.ble 68377 g then 142024 else 142017) else 177416) else (bif Nat.ble 68195 g then (bif Nat.ble 68300 g then 177409 else 136536) else 87648))) else (bif Nat.ble 67677 g then (bif Nat.ble 67817 g then (bif Nat.ble 67915 g then (bif Nat.ble 67929 g then 143914 else 143697) else 144712) else (bif Nat.ble 67691 g then (bif Nat.ble 67789 g then 144705 else 86808) else 144040)) else (bif Nat.ble 67369 g then (bif Nat.ble 67404 g then (bif Nat.ble 67425 g then 135507 else 174105) else 141891) else (bif Nat.ble 67341 g then 141849 else 86787)))) else (bif Nat.ble 55427 g then (bif Nat.ble 66284 g then (bif Nat.ble 66396 g then (bif Nat.ble 66403 g then (bif Nat.ble 67173 g then 136515 else 136746) else 173664) else (bif Nat.ble 66333 g then (bif Nat.ble 66347 g then 141912 else 141849) else 109152)) else (bif Nat.ble 55490 g then (bif Nat.ble 55504 g then (bif Nat.ble 66277 g then 136872 else 181896) else 55504) else (bif Nat.ble 55448 g then 181840 else 55490))) else (bif Nat.ble 54916 g then (bif Nat.ble 55056 g then (bif Nat.ble 55315 g then (bif Nat.ble 55322 g then 181840 else 72472) else 181336) else (bif Nat.ble 54944 g then (bif Nat.ble 55042 g then 55427 else 180944) else 55322)) else (bif Nat.ble 54552 g then (bif Nat.ble 54804 g then (bif Nat.ble 54818 g then 180867 else 72451) else 181448) else (bif Nat.ble 54531 g then 55448 else 180944)))))
def ck_h6 (g : Nat) : Nat := (bif Nat.ble 78156 g then (bif Nat.ble 79976 g then (bif Nat.ble 80480 g then (bif Nat.ble 82013 g then (bif Nat.ble 82027 g then (bif Nat.ble 82125 g then 109089 else 86724) else 103748) else (bif Nat.ble 80641 g then (bif Nat.ble 80648 g then 178312 else 178312) else 87816)) else (bif Nat.ble 80396 g then (bif Nat.ble 80417 g then (bif Nat.ble 80452 g then 43744 else 87816) else 87809) else (bif Nat.ble 80193 g then (bif Nat.ble 80200 g then 146056 else 146056) else 86808))) else (bif Nat.ble 78632 g then (bif Nat.ble 79885 g then (bif Nat.ble 79913 g then (bif Nat.ble 79941 g then 43555 else 86563) else 86297) else (bif Nat.ble 78660 g then (bif Nat.ble 78688 g then 115536 else 47146) else 116040)) else (bif Nat.ble 78373 g then (bif Nat.ble 78380 g then (bif Nat.ble 78597 g then 47272 else 86752) else 115368) else (bif Nat.ble 78177 g then 115242 else 115025)))) else (bif Nat.ble 72024 g then (bif Nat.ble 72451 g then (bif Nat.ble 77932 g then (bif Nat.ble 78093 g then (bif Nat.ble 78121 g then 116040 else 116033) else 86752) else (bif Nat.ble 72472 g then (bif Nat.ble 77925 g then 115368 else 142024) else 50520)) else (bif Nat.ble 72227 g then (bif Nat.ble 72388 g then (bif Nat.ble 72416 g then 177416 else 177248) else 87585) else (bif Nat.ble 72220 g then 87648 else 144208))) else (bif Nat.ble 71520 g then (bif Nat.ble 71877 g then (bif Nat.ble 71912 g then (bif Nat.ble 72003 g then 50730 else 144712) else 50856) else (bif Nat.ble 71709 g then (bif Nat.ble 71723 g then 86808 else 144040) else 174168)) else (bif Nat.ble 71429 g then (bif Nat.ble 71464 g then (bif Nat.ble 71492 g then 49491 else 141912) else 50499) else (bif Nat.ble 71212 g then 86787 else 86283)))))
def ck_h7 (g : Nat) : Nat := (bif Nat.ble 86115 g then (bif Nat.ble 87564 g then (bif Nat.ble 88075 g then (bif Nat.ble 88152 g then (bif Nat.ble 88257 g then (bif Nat.ble 88264 g then 181896 else 181896) else 88264) else (bif Nat.ble 88089 g then (bif Nat.ble 88131 g then 43800 else 88264) else 88257)) else (bif Nat.ble 87648 g then (bif Nat.ble 87809 g then (bif Nat.ble 87816 g then 181448 else 181315) else 88152) else (bif Nat.ble 87585 g then (bif Nat.ble 87620 g then 43779 else 88131) else 88089))) else (bif Nat.ble 86556 g then (bif Nat.ble 86752 g then (bif Nat.ble 86787 g then (bif Nat.ble 86808 g then 181448 else 181336) else 109320) else (bif Nat.ble 86563 g then (bif Nat.ble 86724 g then 46432 else 88152) else 88089)) else (bif Nat.ble 86241 g then (bif Nat.ble 86283 g then (bif Nat.ble 86297 g then 181448 else 181441) else 109320) else (bif Nat.ble 86220 g then 109313 else 88152)))) else (bif Nat.ble 83525 g then (bif Nat.ble 84505 g then (bif Nat.ble 84673 g then (bif Nat.ble 84680 g then (bif Nat.ble 86108 g then 103776 else 177416) else 177220) else (bif Nat.ble 84547 g then (bif Nat.ble 84568 g then 87648 else 43716) else 87620)) else (bif Nat.ble 83777 g then (bif Nat.ble 83784 g then (bif Nat.ble 84491 g then 87585 else 174280) else 172579) else (bif Nat.ble 83560 g then 86808 else 43555))) else (bif Nat.ble 82629 g then (bif Nat.ble 82776 g then (bif Nat.ble 83469 g then (bif Nat.ble 83497 g then 86563 else 86297) else 173664) else (bif Nat.ble 82664 g then (bif Nat.ble 82755 g then 45396 else 109152) else 46404)) else (bif Nat.ble 82265 g then (bif Nat.ble 82461 g then (bif Nat.ble 82475 g then 86724 else 86220) else 102740) else (bif Nat.ble 82251 g then 173601 else 109124)))))
def ck_h8 (g : Nat) : Nat := (bif Nat.ble 101130 g then (bif Nat.ble 103720 g then (bif Nat.ble 104616 g then (bif Nat.ble 104980 g then (bif Nat.ble 104994 g then (bif Nat.ble 105092 g then 49498 else 178256) else 71723) else (bif Nat.ble 104770 g then (bif Nat.ble 104784 g then 146056 else 51024) else 146000)) else (bif Nat.ble 104469 g then (bif Nat.ble 104490 g then (bif Nat.ble 104581 g then 51010 else 146000) else 71912) else (bif Nat.ble 103748 g then (bif Nat.ble 103776 g then 120072 else 119904) else 141128))) else (bif Nat.ble 102698 g then (bif Nat.ble 103461 g then (bif Nat.ble 103468 g then (bif Nat.ble 103685 g then 50408 else 80480) else 80417) else (bif Nat.ble 102740 g then (bif Nat.ble 102754 g then 119841 else 119904) else 119568)) else (bif Nat.ble 102565 g then (bif Nat.ble 102572 g then (bif Nat.ble 102677 g then 140008 else 119554) else 119050) else (bif Nat.ble 101137 g then 139819 else 139609)))) else (bif Nat.ble 99681 g then (bif Nat.ble 100682 g then (bif Nat.ble 100962 g then (bif Nat.ble 101004 g then (bif Nat.ble 101025 g then 135514 else 178193) else 136235) else (bif Nat.ble 100689 g then (bif Nat.ble 100948 g then 177248 else 146056) else 146049)) else (bif Nat.ble 100458 g then (bif Nat.ble 100493 g then (bif Nat.ble 100521 g then 145986 else 145937) else 146000) else (bif Nat.ble 100437 g then 145937 else 120072))) else (bif Nat.ble 99170 g then (bif Nat.ble 99597 g then (bif Nat.ble 99625 g then (bif Nat.ble 99660 g then 120065 else 141128) else 141121) else (bif Nat.ble 99429 g then (bif Nat.ble 99436 g then 80480 else 136424) else 137040)) else (bif Nat.ble 99093 g then (bif Nat.ble 99114 g then (bif Nat.ble 99156 g then 119904 else 119568) else 140008) else (bif Nat.ble 98988 g then 119554 else 137026)))))
def ck_h9 (g : Nat) : Nat := (bif Nat.ble 109089 g then (bif Nat.ble 115221 g then (bif Nat.ble 115725 g then (bif Nat.ble 115816 g then (bif Nat.ble 116033 g then (bif Nat.ble 116040 g then 120072 else 119876) else 80480) else (bif Nat.ble 115753 g then (bif Nat.ble 115781 g then 42820 else 80452) else 80417)) else (bif Nat.ble 115368 g then (bif Nat.ble 115522 g then (bif Nat.ble 115536 g then 119904 else 47748) else 119568) else (bif Nat.ble 115242 g then (bif Nat.ble 115333 g then 47650 else 119428) else 71492))) else (bif Nat.ble 114773 g then (bif Nat.ble 114857 g then (bif Nat.ble 115018 g then (bif Nat.ble 115025 g then 119876 else 119841) else 119330) else (bif Nat.ble 114794 g then (bif Nat.ble 114829 g then 119057 else 119428) else 118924)) else (bif Nat.ble 109152 g then (bif Nat.ble 109313 g then (bif Nat.ble 109320 g then 178312 else 178312) else 82776) else (bif Nat.ble 109124 g then 43051 else 82475)))) else (bif Nat.ble 107269 g then (bif Nat.ble 108585 g then (bif Nat.ble 108865 g then (bif Nat.ble 108872 g then (bif Nat.ble 109068 g then 82265 else 146056) else 146056) else (bif Nat.ble 108613 g then (bif Nat.ble 108648 g then 83784 else 43240) else 83784)) else (bif Nat.ble 107332 g then (bif Nat.ble 107360 g then (bif Nat.ble 108557 g then 83777 else 120072) else 47776) else (bif Nat.ble 107304 g then 119568 else 47650))) else (bif Nat.ble 106765 g then (bif Nat.ble 106849 g then (bif Nat.ble 107045 g then (bif Nat.ble 107052 g then 119456 else 82664) else 120072) else (bif Nat.ble 106793 g then (bif Nat.ble 106828 g then 120065 else 119330) else 119057)) else (bif Nat.ble 105232 g then (bif Nat.ble 106597 g then (bif Nat.ble 106604 g then 119456 else 82664) else 140120) else (bif Nat.ble 105218 g then 50219 else 178256)))))
def ck_h10 (g : Nat) : Nat := (bif Nat.ble 120065 g then (bif Nat.ble 131818 g then (bif Nat.ble 132329 g then (bif Nat.ble 132693 g then (bif Nat.ble 132714 g then (bif Nat.ble 132749 g then 151761 else 152195) else 151691) else (bif Nat.ble 132427 g then (bif Nat.ble 132441 g then 152776 else 152769) else 152090)) else (bif Nat.ble 132189 g then (bif Nat.ble 132203 g then (bif Nat.ble 132301 g then 151761 else 152216) else 78632) else (bif Nat.ble 131923 g then (bif Nat.ble 131930 g then 152601 else 152664) else 152272))) else (bif Nat.ble 120912 g then (bif Nat.ble 131741 g then (bif Nat.ble 131755 g then (bif Nat.ble 131797 g then 107304 else 152258) else 151754) else (bif Nat.ble 120961 g then (bif Nat.ble 120968 g then 181896 else 181826) else 181896)) else (bif Nat.ble 120842 g then (bif Nat.ble 120849 g then (bif Nat.ble 120898 g then 181840 else 181896) else 181889) else (bif Nat.ble 120072 g then 120968 else 120968)))) else (bif Nat.ble 119057 g then (bif Nat.ble 119554 g then (bif Nat.ble 119841 g then (bif Nat.ble 119876 g then (bif Nat.ble 119904 g then 80648 else 42848) else 80648) else (bif Nat.ble 119568 g then (bif Nat.ble 119820 g then 80641 else 120968) else 47888)) else (bif Nat.ble 119330 g then (bif Nat.ble 119428 g then (bif Nat.ble 119456 g then 120912 else 47874) else 120912) else (bif Nat.ble 119316 g then 71520 else 120968))) else (bif Nat.ble 117384 g then (bif Nat.ble 118924 g then (bif Nat.ble 118945 g then (bif Nat.ble 119050 g then 120961 else 120898) else 120849) else (bif Nat.ble 118868 g then (bif Nat.ble 118882 g then 120912 else 120849) else 178312)) else (bif Nat.ble 117314 g then (bif Nat.ble 117328 g then (bif Nat.ble 117377 g then 176674 else 177248) else 41308) else (bif Nat.ble 117265 g then 69980 else 177185)))))
def ck_h11 (g : Nat) : Nat := (bif Nat.ble 136746 g then (bif Nat.ble 139357 g then (bif Nat.ble 139805 g then (bif Nat.ble 140008 g then (bif Nat.ble 140099 g then (bif Nat.ble 140120 g then 152776 else 152664) else 108872) else (bif Nat.ble 139819 g then (bif Nat.ble 139973 g then 46376 else 84568) else 84505)) else (bif Nat.ble 139497 g then (bif Nat.ble 139595 g then (bif Nat.ble 139609 g then 152776 else 152769) else 108872) else (bif Nat.ble 139371 g then (bif Nat.ble 139469 g then 108865 else 84568) else 103720))) else (bif Nat.ble 137747 g then (bif Nat.ble 137880 g then (bif Nat.ble 137922 g then (bif Nat.ble 137936 g then 153224 else 51920) else 153168) else (bif Nat.ble 137754 g then (bif Nat.ble 137859 g then 51906 else 153168) else 72024)) else (bif Nat.ble 136872 g then (bif Nat.ble 137026 g then (bif Nat.ble 137040 g then 152664 else 51843) else 152272) else (bif Nat.ble 136837 g then 51738 else 152195)))) else (bif Nat.ble 135381 g then (bif Nat.ble 136235 g then (bif Nat.ble 136515 g then (bif Nat.ble 136536 g then (bif Nat.ble 136725 g then 72003 else 152776) else 51864) else (bif Nat.ble 136389 g then (bif Nat.ble 136424 g then 152272 else 51738) else 152216)) else (bif Nat.ble 135507 g then (bif Nat.ble 135514 g then (bif Nat.ble 136221 g then 78632 else 104784) else 152664) else (bif Nat.ble 135402 g then 152272 else 107304))) else (bif Nat.ble 133771 g then (bif Nat.ble 133841 g then (bif Nat.ble 135325 g then (bif Nat.ble 135339 g then 152258 else 104770) else 153224) else (bif Nat.ble 133785 g then (bif Nat.ble 133834 g then 153217 else 153154) else 153105)) else (bif Nat.ble 132945 g then (bif Nat.ble 133715 g then (bif Nat.ble 133722 g then 153168 else 153105) else 152643) else (bif Nat.ble 132938 g then 152601 else 152090)))))
def ck_h12 (g : Nat) : Nat := (bif Nat.ble 144194 g then (bif Nat.ble 146000 g then (bif Nat.ble 151705 g then (bif Nat.ble 152083 g then (bif Nat.ble 152090 g then (bif Nat.ble 152195 g then 45410 else 181840) else 71212) else (bif Nat.ble 151754 g then (bif Nat.ble 151761 g then 107052 else 106849) else 102754)) else (bif Nat.ble 151635 g then (bif Nat.ble 151642 g then (bif Nat.ble 151691 g then 181777 else 103468) else 181336) else (bif Nat.ble 146049 g then (bif Nat.ble 146056 g then 153224 else 153154) else 153224))) else (bif Nat.ble 144488 g then (bif Nat.ble 145930 g then (bif Nat.ble 145937 g then (bif Nat.ble 145986 g then 153168 else 153224) else 153217) else (bif Nat.ble 144705 g then (bif Nat.ble 144712 g then 117384 else 117384) else 80200)) else (bif Nat.ble 144397 g then (bif Nat.ble 144425 g then (bif Nat.ble 144453 g then 42792 else 80200) else 80193) else (bif Nat.ble 144208 g then 117384 else 47440)))) else (bif Nat.ble 142024 g then (bif Nat.ble 143690 g then (bif Nat.ble 143914 g then (bif Nat.ble 144005 g then (bif Nat.ble 144040 g then 117328 else 47426) else 117328) else (bif Nat.ble 143697 g then (bif Nat.ble 143893 g then 71464 else 117384) else 117377)) else (bif Nat.ble 143466 g then (bif Nat.ble 143501 g then (bif Nat.ble 143529 g then 117314 else 117265) else 117328) else (bif Nat.ble 143445 g then 117265 else 153224))) else (bif Nat.ble 141128 g then (bif Nat.ble 141891 g then (bif Nat.ble 141912 g then (bif Nat.ble 142017 g then 153224 else 84680) else 43352) else (bif Nat.ble 141835 g then (bif Nat.ble 141849 g then 84680 else 84673) else 152776)) else (bif Nat.ble 140869 g then (bif Nat.ble 140904 g then (bif Nat.ble 141121 g then 152643 else 84568) else 43331) else (bif Nat.ble 140841 g then 84547 else 84505)))))
def ck_h13 (g : Nat) : Nat := (bif Nat.ble 164963 g then (bif Nat.ble 165971 g then (bif Nat.ble 168092 g then (bif Nat.ble 168162 g then (bif Nat.ble 168211 g then (bif Nat.ble 168218 g then 104581 else 139973) else 106765) else (bif Nat.ble 168099 g then (bif Nat.ble 168148 g then 107269 else 136746) else 104490)) else (bif Nat.ble 166041 g then (bif Nat.ble 166090 g then (bif Nat.ble 166097 g then 144453 else 144425) else 143914) else (bif Nat.ble 165978 g then (bif Nat.ble 166027 g then 143697 else 144005) else 143501))) else (bif Nat.ble 165460 g then (bif Nat.ble 165537 g then (bif Nat.ble 165642 g then (bif Nat.ble 165649 g then 139819 else 139609) else 135514) else (bif Nat.ble 165474 g then (bif Nat.ble 165516 g then 133841 else 136235) else 71723)) else (bif Nat.ble 165089 g then (bif Nat.ble 165131 g then (bif Nat.ble 165145 g then 140869 else 140841) else 135381) else (bif Nat.ble 165068 g then 108585 else 136389)))) else (bif Nat.ble 153154 g then (bif Nat.ble 164515 g then (bif Nat.ble 164627 g then (bif Nat.ble 164634 g then (bif Nat.ble 164956 g then 78597 else 139469) else 139973) else (bif Nat.ble 164564 g then (bif Nat.ble 164578 g then 136837 else 107269) else 136746)) else (bif Nat.ble 153217 g then (bif Nat.ble 153224 g then (bif Nat.ble 164508 g then 104490 else 181896) else 180762) else (bif Nat.ble 153168 g then 181336 else 41315))) else (bif Nat.ble 152643 g then (bif Nat.ble 152776 g then (bif Nat.ble 153098 g then (bif Nat.ble 153105 g then 69987 else 181273) else 181896) else (bif Nat.ble 152664 g then (bif Nat.ble 152769 g then 181896 else 78688) else 42540)) else (bif Nat.ble 152272 g then (bif Nat.ble 152587 g then (bif Nat.ble 152601 g then 78380 else 78177) else 107360) else (bif Nat.ble 152258 g then 46124 else 181840)))))
def ck_h14 (g : Nat) : Nat := (bif Nat.ble 172299 g then (bif Nat.ble 173664 g then (bif Nat.ble 174168 g then (bif Nat.ble 176212 g then (bif Nat.ble 176226 g then (bif Nat.ble 176268 g then 115025 else 115333) else 114829) else (bif Nat.ble 174273 g then (bif Nat.ble 174280 g then 144712 else 144453) else 83560)) else (bif Nat.ble 174091 g then (bif Nat.ble 174105 g then (bif Nat.ble 174147 g then 43205 else 83525) else 83497) else (bif Nat.ble 173825 g then (bif Nat.ble 173832 g then 142024 else 139819) else 82776))) else (bif Nat.ble 172768 g then (bif Nat.ble 173580 g then (bif Nat.ble 173601 g then (bif Nat.ble 173636 g then 43051 else 82475) else 82265) else (bif Nat.ble 172803 g then (bif Nat.ble 172824 g then 140904 else 45333) else 108648)) else (bif Nat.ble 172572 g then (bif Nat.ble 172579 g then (bif Nat.ble 172740 g then 46341 else 82629) else 82125) else (bif Nat.ble 172313 g then 102677 else 140841)))) else (bif Nat.ble 169744 g then (bif Nat.ble 170178 g then (bif Nat.ble 172131 g then (bif Nat.ble 172236 g then (bif Nat.ble 172257 g then 108613 else 108585) else 82629) else (bif Nat.ble 170192 g then (bif Nat.ble 172124 g then 103685 else 144488) else 50821)) else (bif Nat.ble 170010 g then (bif Nat.ble 170115 g then (bif Nat.ble 170136 g then 144208 else 50730) else 144005) else (bif Nat.ble 170003 g then 71877 else 140120))) else (bif Nat.ble 169240 g then (bif Nat.ble 169604 g then (bif Nat.ble 169632 g then (bif Nat.ble 169730 g then 50219 else 137936) else 49498) else (bif Nat.ble 169492 g then (bif Nat.ble 169506 g then 136235 else 71723) else 140904)) else (bif Nat.ble 169156 g then (bif Nat.ble 169184 g then (bif Nat.ble 169219 g then 50373 else 108648) else 49365) else (bif Nat.ble 168995 g then 78093 else 78597)))))
def ck_h15 (g : Nat) : Nat := (bif Nat.ble 180314 g then (bif Nat.ble 181259 g then (bif Nat.ble 181770 g then (bif Nat.ble 181840 g then (bif Nat.ble 181889 g then (bif Nat.ble 181896 g then 181896 else 35610) else 72472) else (bif Nat.ble 181777 g then (bif Nat.ble 181826 g then 41315 else 69987) else 68377)) else (bif Nat.ble 181336 g then (bif Nat.ble 181441 g then (bif Nat.ble 181448 g then 109320 else 107052) else 78688) else (bif Nat.ble 181273 g then (bif Nat.ble 181315 g then 42540 else 78380) else 78177))) else (bif Nat.ble 180755 g then (bif Nat.ble 180888 g then (bif Nat.ble 180930 g then (bif Nat.ble 180944 g then 107360 else 46124) else 105232) else (bif Nat.ble 180762 g then (bif Nat.ble 180867 g then 45410 else 103468) else 71212)) else (bif Nat.ble 180377 g then (bif Nat.ble 180426 g then (bif Nat.ble 180433 g then 107052 else 106849) else 102754) else (bif Nat.ble 180363 g then 101137 else 103468)))) else (bif Nat.ble 177220 g then (bif Nat.ble 178193 g then (bif Nat.ble 178305 g then (bif Nat.ble 178312 g then (bif Nat.ble 180307 g then 71212 else 146056) else 143914) else (bif Nat.ble 178242 g then (bif Nat.ble 178256 g then 144488 else 41245) else 69917)) else (bif Nat.ble 177409 g then (bif Nat.ble 177416 g then (bif Nat.ble 178186 g then 144425 else 116040) else 115781) else (bif Nat.ble 177248 g then 79976 else 42757))) else (bif Nat.ble 176772 g then (bif Nat.ble 176912 g then (bif Nat.ble 177164 g then (bif Nat.ble 177185 g then 79941 else 79913) else 115816) else (bif Nat.ble 176800 g then (bif Nat.ble 176898 g then 47237 else 115536) else 47146)) else (bif Nat.ble 176401 g then (bif Nat.ble 176660 g then (bif Nat.ble 176674 g then 115333 else 71429) else 115781) else (bif Nat.ble 176394 g then 115753 else 115242)))))
def ck_h (g : Nat) : Nat := (bif Nat.ble 98981 g then (bif Nat.ble 140813 g then (bif Nat.ble 168988 g then (bif Nat.ble 176289 g then ck_h15 g else ck_h14 g) else (bif Nat.ble 152216 g then ck_h13 g else ck_h12 g)) else (bif Nat.ble 117258 g then (bif Nat.ble 132777 g then ck_h11 g else ck_h10 g) else (bif Nat.ble 105120 g then ck_h9 g else ck_h8 g))) else (bif Nat.ble 47125 g then (bif Nat.ble 71205 g then (bif Nat.ble 82153 g then ck_h7 g else ck_h6 g) else (bif Nat.ble 54496 g then ck_h5 g else ck_h4 g)) else (bif Nat.ble 19027 g then (bif Nat.ble 35050 g then ck_h3 g else ck_h2 g) else (bif Nat.ble 10977 g then ck_h1 g else ck_h0 g))))
def ck_isS (s : Nat) : Bool := ck_shapes.any (fun t => Nat.beq s t)
def ck_Pb (g : Nat) : Bool := Nat.ble g 262143 && ck_all (fun i => Nat.ble (ck_im g i) 5 && ck_all (fun j => !(Nat.beq (ck_im g i) (ck_im g j))) i) 6
/-- i is the least place of its cycle -/
def ck_itb (g i : Nat) : Nat → Nat → Bool
  | 0, _ => true
  | k + 1, a => Nat.ble i (ck_im g a) && ck_itb g i k (ck_im g a)
def ck_chk (g : Nat) : Bool :=
  ck_isS (ck_sh g) && Nat.beq ((List.range 6).countP (fun i => Nat.beq (ck_im g i) i)) (ck_cc (ck_sh g) 1)
   && Nat.beq ((List.range 6).countP (fun i => ck_itb g i 5 i)) (ck_ac (ck_sh g)) && Nat.ble 1 (ck_ac (ck_sh g)) && Nat.ble (ck_ac (ck_sh g)) 6
   && ck_Pb (ck_h g) && Nat.beq (ck_mul (ck_h g) g) (ck_mul (ck_rep (ck_sh g)) (ck_h g))
def ck_chkall : Bool :=
  ck_all (fun a => ck_all (fun b => Nat.beq a b || ck_all (fun c => Nat.beq a c || Nat.beq b c || ck_all (fun d => Nat.beq a d || Nat.beq b d || Nat.beq c d ||
    ck_all (fun e => Nat.beq a e || Nat.beq b e || Nat.beq c e || Nat.beq d e || ck_all (fun f => Nat.beq a f || Nat.beq b f || Nat.beq c f || Nat.beq d f || Nat.beq e f ||
      ck_chk (a + b * 8 + c * 64 + d * 512 + e * 4096 + f * 32768)) 6) 6) 6) 6) 6) 6
theorem ck_chkall_t : ck_chkall = true := by decide +kernel
end
section
/-! part 4: how many colourings a representative leaves, by the kernel -/
def ck_fixb (c x r : Nat) : Bool := ck_all (fun i => Nat.beq (ck_dg c x (ck_im r i)) (ck_dg c x i)) 6
def ck_keys (c r : Nat) : List Nat := ((List.range (c ^ 6)).filter (fun x => ck_fixb c x r)).map (fun x => 7 * ck_ct c 0 x + ck_ct c 1 x)
def ck_chk2 (c s : Nat) : Bool :=
  ck_all (fun m => ck_all (fun n => Nat.beq ((ck_keys c (ck_rep s)).countP (fun k => Nat.beq k (7 * m + n))) (ck_LL c s 6 (7 * m + n))) (7 - m)) 7
   && Nat.beq (ck_keys c (ck_rep s)).length (c ^ ck_ac s) && ck_Pb (ck_rep s)
theorem ck_chk2_1 : ck_shapes.all (fun s => ck_chk2 1 s) = true := by decide +kernel
theorem ck_chk2_2 : ck_shapes.all (fun s => ck_chk2 2 s) = true := by decide +kernel
theorem ck_chk2_3 : ck_shapes.all (fun s => ck_chk2 3 s) = true := by decide +kernel
end
section
/-! part 5: the plain law: what the averages are -/
theorem ck_all_i {f : Nat → Bool} {n : Nat} (h : ∀ i, i < n → f i = true) : ck_all f n = true := by
  induction n with
  | zero => rfl
  | succ n ih =>
    show (ck_all f n && f n) = true
    rw [Bool.and_eq_true]
    exact ⟨ih (fun i hi => h i (by omega)), h n (by omega)⟩
theorem ck_nb {a b : Nat} (h : a ≠ b) : Nat.beq a b = false := by
  cases t : Nat.beq a b
  · rfl
  · exact absurd (Nat.eq_of_beq_eq_true t) h
theorem ck_nbt {a b : Nat} : Nat.beq a b = true ↔ a = b := ⟨Nat.eq_of_beq_eq_true, fun h => by rw [h]; exact Nat.beq_refl b⟩
theorem ck_Pb_ok {g : Nat} (h : ck_Pb g = true) : ck_P g := by
  unfold ck_Pb at h
  rw [Bool.and_eq_true] at h
  have h1 := Nat.le_of_ble_eq_true h.1
  have h2 := ck_all_ok h.2
  have h3 : ∀ i, i < 6 → ck_im g i < 6 ∧ ∀ j, j < i → ck_im g i ≠ ck_im g j := by
    intro i hi
    have t := h2 i hi
    rw [Bool.and_eq_true] at t
    refine ⟨Nat.lt_succ_of_le (Nat.le_of_ble_eq_true t.1), fun j hj e => ?_⟩
    have u := ck_all_ok t.2 j hj
    rw [ck_nbt.mpr e] at u
    exact absurd u (by decide)
  refine ⟨by omega, fun i hi => (h3 i hi).1, fun i hi j hj e => ?_⟩
  rcases Nat.lt_trichotomy i j with t | t | t
  · exact absurd e.symm ((h3 j hj).2 i t)
  · exact t
  · exact absurd e ((h3 i hi).2 j t)
theorem ck_P_chk {g : Nat} (hg : ck_P g) : ck_chk g = true := by
  have hne : ∀ i, i < 6 → ∀ j, j < 6 → i ≠ j → Nat.beq (ck_im g i) (ck_im g j) = false := fun i hi j hj e => ck_nb (fun t => e (hg.2.2 i hi j hj t))
  have t := ck_chkall_t
  unfold ck_chkall at t
  replace t := ck_all_ok t (ck_im g 0) (hg.2.1 0 (by decide))
  replace t := ck_all_ok t (ck_im g 1) (hg.2.1 1 (by decide))
  rw [hne 0 (by decide) 1 (by decide) (by decide), Bool.false_or] at t
  replace t := ck_all_ok t (ck_im g 2) (hg.2.1 2 (by decide))
  rw [hne 0 (by decide) 2 (by decide) (by decide), hne 1 (by decide) 2 (by decide) (by decide), Bool.false_or, Bool.false_or] at t
  replace t := ck_all_ok t (ck_im g 3) (hg.2.1 3 (by decide))
  rw [hne 0 (by decide) 3 (by decide) (by decide), hne 1 (by decide) 3 (by decide) (by decide), hne 2 (by decide) 3 (by decide) (by decide), Bool.false_or, Bool.false_or, Bool.false_or] at t
  replace t := ck_all_ok t (ck_im g 4) (hg.2.1 4 (by decide))
  rw [hne 0 (by decide) 4 (by decide) (by decide), hne 1 (by decide) 4 (by decide) (by decide), hne 2 (by decide) 4 (by decide) (by decide), hne 3 (by decide) 4 (by decide) (by decide), Bool.false_or, Bool.false_or, Bool.false_or, Bool.false_or] at t
  replace t := ck_all_ok t (ck_im g 5) (hg.2.1 5 (by decide))
  rw [hne 0 (by decide) 5 (by decide) (by decide), hne 1 (by decide) 5 (by decide) (by decide), hne 2 (by decide) 5 (by decide) (by decide), hne 3 (by decide) 5 (by decide) (by decide), hne 4 (by decide) 5 (by decide) (by decide), Bool.false_or, Bool.false_or, Bool.false_or, Bool.false_or, Bool.false_or] at t
  rw [← ck_enc_e, ck_enc_im hg.1] at t
  exact t
theorem ck_isS_i {s : Nat} : ck_isS s = true ↔ s ∈ ck_shapes := by
  unfold ck_isS
  rw [List.any_eq_true]
  constructor
  · intro ⟨t, h1, h2⟩
    rw [ck_nbt] at h2
    rw [h2]
    exact h1
  · intro h
    exact ⟨s, h, ck_nbt.mpr rfl⟩
theorem ck_facts {g : Nat} (hg : ck_P g) : ck_sh g ∈ ck_shapes ∧ (List.range 6).countP (fun i => Nat.beq (ck_im g i) i) = ck_cc (ck_sh g) 1
    ∧ (List.range 6).countP (fun i => ck_itb g i 5 i) = ck_ac (ck_sh g) ∧ 1 ≤ ck_ac (ck_sh g) ∧ ck_ac (ck_sh g) ≤ 6
    ∧ ck_P (ck_h g) ∧ ck_mul (ck_h g) g = ck_mul (ck_rep (ck_sh g)) (ck_h g) := by
  have t := ck_P_chk hg
  unfold ck_chk at t
  rw [Bool.and_eq_true, Bool.and_eq_true, Bool.and_eq_true, Bool.and_eq_true, Bool.and_eq_true, Bool.and_eq_true] at t
  obtain ⟨⟨⟨⟨⟨⟨t1, t2⟩, t3⟩, t4⟩, t5⟩, t6⟩, t7⟩ := t
  exact ⟨ck_isS_i.mp t1, ck_nbt.mp t2, ck_nbt.mp t3, Nat.le_of_ble_eq_true t4, Nat.le_of_ble_eq_true t5, ck_Pb_ok t6, ck_nbt.mp t7⟩
theorem ck_chk2_ok {c s : Nat} (hc : ck_ok c) (hs : s ∈ ck_shapes) : ck_chk2 c s = true := by
  rcases hc with rfl | rfl | rfl
  · exact List.all_eq_true.mp ck_chk2_1 s hs
  · exact List.all_eq_true.mp ck_chk2_2 s hs
  · exact List.all_eq_true.mp ck_chk2_3 s hs
def ck_q (c m n x : Nat) : Bool := ck_ct c 0 x == m && ck_ct c 1 x == n
theorem ck_q_act {c g : Nat} (hc : ck_ok c) (hg : ck_P g) (m n x : Nat) : ck_q c m n (ck_act c x g) = ck_q c m n x := by
  unfold ck_q
  rw [ck_ct_act hc hg, ck_ct_act hc hg]
theorem ck_rep_P {c s : Nat} (hc : ck_ok c) (hs : s ∈ ck_shapes) : ck_P (ck_rep s) := by
  have t := ck_chk2_ok hc hs
  unfold ck_chk2 at t
  rw [Bool.and_eq_true] at t
  exact ck_Pb_ok t.2
theorem ck_fixb_i {c s x : Nat} (hc : ck_ok c) (hs : s ∈ ck_shapes) (hx : x < c ^ 6) : ck_fixb c x (ck_rep s) = true ↔ ck_act c x (ck_rep s) = x := by
  rw [ck_act_fix hc (ck_rep_P hc hs) hx]
  unfold ck_fixb
  constructor
  · intro h i hi
    exact ck_nbt.mp (ck_all_ok h i hi)
  · intro h
    exact ck_all_i (fun i hi => ck_nbt.mpr (h i hi))
theorem ck_rep_mn {c s m n : Nat} (hc : ck_ok c) (hs : s ∈ ck_shapes) (hm : m + n < 7) :
    (List.range (c ^ 6)).countP (fun x => ck_act c x (ck_rep s) == x && ck_q c m n x) = ck_LL c s 6 (7 * m + n) := by
  have t := ck_chk2_ok hc hs
  unfold ck_chk2 at t
  rw [Bool.and_eq_true, Bool.and_eq_true] at t
  have u := ck_nbt.mp (ck_all_ok (ck_all_ok t.1.1 m (by omega)) n (by omega))
  rw [← u]
  unfold ck_keys
  rw [List.countP_map, List.countP_filter]
  apply List.countP_congr
  intro x hx
  have hx' := List.mem_range.mp hx
  have hct := ck_ct_le c x
  show _ ↔ (Nat.beq (7 * ck_ct c 0 x + ck_ct c 1 x) (7 * m + n) && ck_fixb c x (ck_rep s)) = true
  rw [Bool.and_eq_true, Bool.and_eq_true, ck_fixb_i hc hs hx', ck_nbt, beq_iff_eq]
  unfold ck_q
  rw [Bool.and_eq_true, beq_iff_eq, beq_iff_eq]
  constructor
  · intro ⟨h1, h2, h3⟩
    exact ⟨by omega, h1⟩
  · intro ⟨h1, h2⟩
    exact ⟨h2, by omega, by omega⟩
theorem ck_rep_all {c s : Nat} (hc : ck_ok c) (hs : s ∈ ck_shapes) :
    (List.range (c ^ 6)).countP (fun x => ck_act c x (ck_rep s) == x) = c ^ ck_ac s := by
  have t := ck_chk2_ok hc hs
  unfold ck_chk2 at t
  rw [Bool.and_eq_true, Bool.and_eq_true] at t
  have u := ck_nbt.mp t.1.2
  rw [← u]
  unfold ck_keys
  rw [List.length_map, ← List.countP_eq_length_filter]
  apply List.countP_congr
  intro x hx
  rw [ck_fixb_i hc hs (List.mem_range.mp hx), beq_iff_eq]
theorem ck_act_inj {c h : Nat} (hc : ck_ok c) (hh : ck_P h) {x y : Nat} (hx : x < c ^ 6) (hy : y < c ^ 6) (e : ck_act c x h = ck_act c y h) : x = y := by
  refine ck_cext hc hx hy (fun i hi => ?_)
  rw [← ck_act_dg hc hh x hi, e, ck_act_dg hc hh y hi]
theorem ck_conj {c g r h : Nat} (hc : ck_ok c) (hg : ck_P g) (hr : ck_P r) (hh : ck_P h) (e : ck_mul h g = ck_mul r h) (q : Nat → Bool) (hq : ∀ x, q (ck_act c x h) = q x) :
    (List.range (c ^ 6)).countP (fun x => ck_act c x g == x && q x) = (List.range (c ^ 6)).countP (fun x => ck_act c x r == x && q x) := by
  rw [← ck_cnt (f := fun x => ck_act c x h) (fun x => ck_act c x g == x && q x) List.nodup_range (fun x _ => List.mem_range.mpr (ck_act_lt hc hh x))
    (fun x hx y hy => ck_act_inj hc hh (List.mem_range.mp hx) (List.mem_range.mp hy))]
  apply List.countP_congr
  intro x hx
  rw [hq x, ck_act_mul hc hh hg, e, ← ck_act_mul hc hr hh, Bool.and_eq_true, Bool.and_eq_true, beq_iff_eq, beq_iff_eq]
  constructor
  · intro ⟨h1, h2⟩
    exact ⟨ck_act_inj hc hh (ck_act_lt hc hr x) (List.mem_range.mp hx) h1, h2⟩
  · intro ⟨h1, h2⟩
    exact ⟨by rw [h1], h2⟩
theorem ck_fix_mn {c g m n : Nat} (hc : ck_ok c) (hg : ck_P g) (hm : m + n < 7) :
    (List.range (c ^ 6)).countP (fun x => ck_act c x g == x && ck_q c m n x) = ck_LL c (ck_sh g) 6 (7 * m + n) := by
  obtain ⟨f1, _, _, _, _, f6, f7⟩ := ck_facts hg
  rw [ck_conj hc hg (ck_rep_P hc f1) f6 f7 _ (fun x => ck_q_act hc f6 m n x), ck_rep_mn hc f1 hm]
theorem ck_fix_all {c g : Nat} (hc : ck_ok c) (hg : ck_P g) :
    (List.range (c ^ 6)).countP (fun x => ck_act c x g == x) = c ^ ck_ac (ck_sh g) := by
  obtain ⟨f1, _, _, _, _, f6, f7⟩ := ck_facts hg
  have t := ck_conj hc hg (ck_rep_P hc f1) f6 f7 (fun _ => true) (fun _ => rfl)
  rw [← ck_rep_all hc f1]
  simp only [Bool.and_true] at t
  exact t
/-! the averages -/
def ck_R (c : Nat) (G : List Nat) : Nat := (List.range (c ^ 6)).countP (ck_rp (ck_act c) G)
def ck_Rm (c : Nat) (G : List Nat) (m n : Nat) : Nat := (List.range (c ^ 6)).countP (fun x => ck_rp (ck_act c) G x && ck_q c m n x)
def ck_O (G : List Nat) : Nat := (List.range 6).countP (ck_rp (fun i g => ck_im g i) G)
theorem ck_B1 {c : Nat} {G : List Nat} (hc : ck_ok c) (hG : ck_Gr G) : ck_ls (fun g => c ^ ck_ac (ck_sh g)) G = G.length * ck_R c G := by
  have t := ck_burn (ck_Gr_g hG) (ck_Ac_x hc hG)
  unfold ck_R
  rw [← t]
  exact ck_ls_congr (fun g hg => (ck_fix_all hc (hG.2.1 g hg)).symm)
theorem ck_B2 {c m n : Nat} {G : List Nat} (hc : ck_ok c) (hG : ck_Gr G) (hm : m + n < 7) : ck_ls (fun g => ck_LL c (ck_sh g) 6 (7 * m + n)) G = G.length * ck_Rm c G m n := by
  have t := ck_burn (ck_Gr_g hG) (ck_Ac_c hc hG (ck_q c m n) (fun x _ g hg => ck_q_act hc hg m n x))
  rw [List.countP_filter] at t
  unfold ck_Rm
  rw [← t]
  refine ck_ls_congr (fun g hg => ?_)
  rw [List.countP_filter]
  exact (ck_fix_mn hc (hG.2.1 g hg) hm).symm
theorem ck_part (p : Nat → Bool) (k : Nat → Nat) (l : List Nat) (N : Nat) : ck_su (fun n => l.countP (fun x => p x && k x == n)) N = l.countP (fun x => p x && decide (k x < N)) := by
  induction N with
  | zero =>
    symm
    show l.countP (fun x => p x && decide (k x < 0)) = 0
    rw [List.countP_eq_zero]
    intro x _ t
    rw [Bool.and_eq_true] at t
    exact absurd (of_decide_eq_true t.2) (by omega)
  | succ N ih =>
    show ck_su _ N + l.countP (fun x => p x && k x == N) = _
    rw [ih, ck_ls_ind, ck_ls_ind, ck_ls_ind, ← ck_ls_add]
    apply ck_ls_congr
    intro x _
    cases p x
    · simp
    · simp only [Bool.true_and, decide_eq_true_eq, beq_iff_eq]
      rcases Nat.lt_trichotomy (k x) N with h | h | h
      · rw [if_pos h, if_neg (by omega), if_pos (by omega)]
      · rw [if_neg (by omega), if_pos h, if_pos (by omega)]
      · rw [if_neg (by omega), if_neg (by omega), if_neg (by omega)]
theorem ck_B3 (c : Nat) (G : List Nat) : ck_su (fun m => ck_su (fun n => ck_Rm c G m n) (7 - m)) 7 = ck_R c G := by
  have h1 : ∀ m, m < 7 → ck_su (fun n => ck_Rm c G m n) (7 - m) = (List.range (c ^ 6)).countP (fun x => ck_rp (ck_act c) G x && ck_ct c 0 x == m) := by
    intro m hm
    have h2 : ck_su (fun n => ck_Rm c G m n) (7 - m) = ck_su (fun n => (List.range (c ^ 6)).countP (fun x => (ck_rp (ck_act c) G x && ck_ct c 0 x == m) && ck_ct c 1 x == n)) (7 - m) := by
      apply ck_su_congr
      intro n _
      unfold ck_Rm ck_q
      apply List.countP_congr
      intro x _
      rw [Bool.and_assoc]
    rw [h2, ck_part]
    apply List.countP_congr
    intro x _
    have := ck_ct_le c x
    rw [Bool.and_eq_true, decide_eq_true_eq, Bool.and_eq_true, beq_iff_eq]
    constructor
    · intro h
      exact h.1
    · intro h
      exact ⟨h, by omega⟩
  rw [ck_su_congr h1, ck_part]
  unfold ck_R
  apply List.countP_congr
  intro x _
  have := ck_ct_le c x
  rw [Bool.and_eq_true, decide_eq_true_eq]
  constructor
  · intro h
    exact h.1
  · intro h
    exact ⟨h, by omega⟩
theorem ck_B4 {G : List Nat} (hG : ck_Gr G) : ck_ls (fun g => ck_cc (ck_sh g) 1) G = G.length * ck_O G := by
  have t := ck_burn (ck_Gr_g hG) (ck_Ac_p hG)
  unfold ck_O
  rw [← t]
  refine ck_ls_congr (fun g hg => ?_)
  obtain ⟨_, f2, _⟩ := ck_facts (hG.2.1 g hg)
  rw [← f2]
  apply List.countP_congr
  intro i _
  rw [ck_nbt, beq_iff_eq]
theorem ck_O_le (G : List Nat) : ck_O G ≤ 6 := by
  have := List.countP_le_length (p := ck_rp (fun i g => ck_im g i) G) (l := List.range 6)
  rw [List.length_range] at this
  exact this
theorem ck_itb_i {G : List Nat} (hG : ck_Gr G) {g i : Nat} (hg : g ∈ G) (hi : i < 6) (hr : ck_rp (fun i g => ck_im g i) G i = true) : ∀ k a, (∃ w, w ∈ G ∧ a = ck_im w i) → ck_itb g i k a = true := by
  rw [ck_rp_iff] at hr
  intro k
  induction k with
  | zero => exact fun a _ => rfl
  | succ k ih =>
    intro a ⟨w, hw, e⟩
    have hm : ck_mul w g ∈ G := hG.2.2.2 w hw g hg
    have e2 : ck_im g a = ck_im (ck_mul w g) i := by rw [ck_mul_im hi, e]
    show (Nat.ble i (ck_im g a) && ck_itb g i k (ck_im g a)) = true
    rw [Bool.and_eq_true]
    refine ⟨Nat.ble_eq_true_of_le ?_, ih _ ⟨_, hm, e2⟩⟩
    rw [e2]
    exact hr _ hm
theorem ck_B5 {G : List Nat} (hG : ck_Gr G) {g : Nat} (hg : g ∈ G) : ck_O G ≤ ck_ac (ck_sh g) := by
  obtain ⟨_, _, f3, _⟩ := ck_facts (hG.2.1 g hg)
  rw [← f3]
  unfold ck_O
  apply List.countP_mono_left
  intro i hi hr
  have hi' := List.mem_range.mp hi
  exact ck_itb_i hG hg hi' hr 5 i ⟨ck_id, hG.2.2.1, (ck_id_im i hi').symm⟩
theorem ck_Gr_pos {G : List Nat} (hG : ck_Gr G) : 0 < G.length := List.length_pos_of_mem hG.2.2.1
theorem ck_B6 {c : Nat} {G : List Nat} (hc : ck_ok c) (hG : ck_Gr G) : c ^ ck_O G ≤ ck_R c G := by
  have h1 : ck_ls (fun _ => c ^ ck_O G) G ≤ ck_ls (fun g => c ^ ck_ac (ck_sh g)) G := ck_ls_le (fun g hg => Nat.pow_le_pow_right (ck_ok_pos hc) (ck_B5 hG hg))
  rw [ck_B1 hc hG, ck_ls_const] at h1
  exact Nat.le_of_mul_le_mul_left h1 (ck_Gr_pos hG)
theorem ck_B7 {G : List Nat} (hG : ck_Gr G) : ck_su (fun k => ck_ls (fun g => if ck_ac (ck_sh g) = k + 1 then 1 else 0) G) 6 = G.length := by
  have h1 : ck_su (fun k => ck_ls (fun g => if ck_ac (ck_sh g) = k + 1 then 1 else 0) G) 6 = ck_su (fun k => G.countP (fun g => true && (ck_ac (ck_sh g) - 1) == k)) 6 := by
    apply ck_su_congr
    intro k _
    rw [ck_ls_ind]
    apply ck_ls_congr
    intro g hg
    obtain ⟨_, _, _, f4, f5, _⟩ := ck_facts (hG.2.1 g hg)
    simp only [Bool.true_and, beq_iff_eq]
    by_cases e : ck_ac (ck_sh g) = k + 1
    · rw [if_pos e, if_pos (by omega)]
    · rw [if_neg e, if_neg (by omega)]
  rw [h1, ck_part, List.countP_eq_length]
  intro g hg
  obtain ⟨_, _, _, f4, f5, _⟩ := ck_facts (hG.2.1 g hg)
  simp only [Bool.true_and, decide_eq_true_eq]
  omega
theorem ck_B8 {gs gs' G G' : List Nat} (c : Nat) (h : ck_G gs G) (h' : ck_G gs' G') (hs : ∀ k, k ∈ gs → k ∈ gs') : ck_R c G' ≤ ck_R c G := by
  unfold ck_R
  apply List.countP_mono_left
  intro x _ hr
  rw [ck_rp_iff] at hr ⊢
  intro g hg
  exact hr g (ck_G_mem h' (ck_W_mono hs (h.2.2.2.2 g hg)))
theorem ck_B9 (G : List Nat) : ck_R 1 G = 1 := by
  unfold ck_R
  have h : ck_rp (ck_act 1) G 0 = true := ck_rp_iff.mpr (fun g _ => Nat.zero_le _)
  show (List.range 1).countP _ = 1
  rw [List.range_succ, List.range_zero, List.nil_append, List.countP_singleton, if_pos h]
theorem ck_R_le (c : Nat) (G : List Nat) : ck_R c G ≤ c ^ 6 := by
  have := List.countP_le_length (p := ck_rp (ck_act c) G) (l := List.range (c ^ 6))
  rw [List.length_range] at this
  exact this
theorem ck_Rm_le (c : Nat) (G : List Nat) (m n : Nat) : ck_Rm c G m n ≤ c ^ 6 := by
  have := List.countP_le_length (p := fun x => ck_rp (ck_act c) G x && ck_q c m n x) (l := List.range (c ^ 6))
  rw [List.length_range] at this
  exact this
theorem ck_c6 {c : Nat} (hc : ck_ok c) : c ^ 6 ≤ 729 ∧ 1 ≤ c ^ 6 := by
  rcases hc with rfl | rfl | rfl <;> decide
/-! at most 720 -/
def ck_perms : List Nat :=
  (List.range 6).flatMap (fun a => (List.range 6).flatMap (fun b => bif Nat.beq a b then [] else (List.range 6).flatMap (fun c => bif Nat.beq a c || Nat.beq b c then [] else
    (List.range 6).flatMap (fun d => bif Nat.beq a d || Nat.beq b d || Nat.beq c d then [] else (List.range 6).flatMap (fun e => bif Nat.beq a e || Nat.beq b e || Nat.beq c e || Nat.beq d e then [] else
      (List.range 6).flatMap (fun f => bif Nat.beq a f || Nat.beq b f || Nat.beq c f || Nat.beq d f || Nat.beq e f then [] else [a + b * 8 + c * 64 + d * 512 + e * 4096 + f * 32768]))))))
theorem ck_perms_len : ck_perms.length = 720 := by decide +kernel
theorem ck_perms_mem {g : Nat} (hg : ck_P g) : g ∈ ck_perms := by
  have hne : ∀ i, i < 6 → ∀ j, j < 6 → i ≠ j → Nat.beq (ck_im g i) (ck_im g j) = false := fun i hi j hj e => ck_nb (fun t => e (hg.2.2 i hi j hj t))
  have hr : ∀ i, i < 6 → ck_im g i ∈ List.range 6 := fun i hi => List.mem_range.mpr (hg.2.1 i hi)
  unfold ck_perms
  refine List.mem_flatMap.mpr ⟨_, hr 0 (by decide), List.mem_flatMap.mpr ⟨_, hr 1 (by decide), ?_⟩⟩
  rw [hne 0 (by decide) 1 (by decide) (by decide), cond_false]
  refine List.mem_flatMap.mpr ⟨_, hr 2 (by decide), ?_⟩
  rw [hne 0 (by decide) 2 (by decide) (by decide), hne 1 (by decide) 2 (by decide) (by decide), Bool.false_or, cond_false]
  refine List.mem_flatMap.mpr ⟨_, hr 3 (by decide), ?_⟩
  rw [hne 0 (by decide) 3 (by decide) (by decide), hne 1 (by decide) 3 (by decide) (by decide), hne 2 (by decide) 3 (by decide) (by decide), Bool.false_or, Bool.false_or, cond_false]
  refine List.mem_flatMap.mpr ⟨_, hr 4 (by decide), ?_⟩
  rw [hne 0 (by decide) 4 (by decide) (by decide), hne 1 (by decide) 4 (by decide) (by decide), hne 2 (by decide) 4 (by decide) (by decide), hne 3 (by decide) 4 (by decide) (by decide), Bool.false_or, Bool.false_or, Bool.false_or, cond_false]
  refine List.mem_flatMap.mpr ⟨_, hr 5 (by decide), ?_⟩
  rw [hne 0 (by decide) 5 (by decide) (by decide), hne 1 (by decide) 5 (by decide) (by decide), hne 2 (by decide) 5 (by decide) (by decide), hne 3 (by decide) 5 (by decide) (by decide), hne 4 (by decide) 5 (by decide) (by decide), Bool.false_or, Bool.false_or, Bool.false_or, Bool.false_or, cond_false]
  rw [← ck_enc_e, ck_enc_im hg.1]
  exact List.mem_singleton.mpr rfl
theorem ck_720 {G : List Nat} (hn : G.Nodup) (hp : ∀ g, g ∈ G → ck_P g) : G.length ≤ 720 := by
  rw [← ck_perms_len]
  exact hn.length_le_of_subset (fun g hg => ck_perms_mem (hp g hg))
theorem ck_B11 {c x : Nat} {G : List Nat} (hc : ck_ok c) (hG : ck_Gr G) (hx : x < c ^ 6) : 0 < G.countP (fun g => ck_act c x g == x) ∧ 1 ≤ G.length / G.countP (fun g => ck_act c x g == x) ∧ G.length % (G.length / G.countP (fun g => ck_act c x g == x)) = 0 := by
  have h1 : 0 < G.countP (fun g => ck_act c x g == x) := by
    rw [List.countP_pos_iff]
    exact ⟨ck_id, hG.2.2.1, by rw [ck_act_id hc hx]; exact beq_self_eq_true x⟩
  have h2 : G.countP (fun g => ck_act c x g == x) ≤ G.length := List.countP_le_length
  have h3 := ck_orb (ck_Gr_g hG) (ck_Ac_x hc hG) (List.mem_range.mpr hx)
  refine ⟨h1, (Nat.one_le_div_iff h1).mpr h2, ?_⟩
  obtain ⟨k, hk⟩ := h3
  rw [hk, Nat.mul_div_cancel_left _ h1]
  exact Nat.mul_mod_left _ _
theorem ck_B12 {c x m n : Nat} {G : List Nat} (hc : ck_ok c) (hG : ck_Gr G) (hx : x < c ^ 6) (h : ck_isN (ck_act c) G x m) (h' : ck_isN (ck_act c) G m n) : n = m := by
  obtain ⟨k, hk, e⟩ := ck_isN_g (ck_Gr_g hG) (ck_Ac_x hc hG) (List.mem_range.mpr hx) h
  rw [e] at h'
  exact ck_isN_u (ck_N_inv (ck_Gr_g hG) (ck_Ac_x hc hG) (List.mem_range.mpr hx) hk h') h
end
section
/-! part 6: walks of the small methods -/
section
variable {cnt cc li sz shs : Int32} {a1 a2 a3 a4 a5 a6 : Nat → Int32}
theorem ck_nor (a b : Nat) : nI a ||| nI b = nI (a ||| b) := by
  apply Int32.toBitVec_inj.1
  show BitVec.ofNat 32 a ||| BitVec.ofNat 32 b = BitVec.ofNat 32 (a ||| b)
  apply BitVec.eq_of_getLsbD_eq
  intro i hi
  simp [hi]
theorem ck_c3 : ∀ i, i < 6 → (((3 * nI i) &&& 31).toBitVec.smod 32).toNat = 3 * i := by decide +kernel
theorem ck_c4 : ∀ i, i < 6 → ((((4 * nI (i + 1)) - 4) &&& 31).toBitVec.smod 32).toNat = 4 * i := by decide +kernel
theorem ck_imw {g i : Nat} (hg : g < 262144) (hi : i < 6) : (nI g >>> ((3 * nI i) &&& 31)) &&& 7 = nI (ck_im g i) := by
  rw [pk_shrN (show g < 2 ^ 31 by omega) _ (3 * i) (ck_c3 i hi), pk_andN (show g / 2 ^ (3 * i) < 2 ^ 32 by have := Nat.div_le_self g (2 ^ (3 * i)); omega) 3 (by decide)]
  unfold ck_im
  rw [Nat.pow_mul]
theorem ck_image {post : Int32 → Prop} {g i : Nat} (hg : g < 262144) (hi : i < 6) (h : post (nI (ck_im g i))) : wpX_image post (cnt, cc, li, sz, shs, a1, a2, a3, a4, a5, a6) (nI g) (nI i) := by
  show post ((nI g >>> ((3 * nI i) &&& 31)) &&& 7)
  rw [ck_imw hg hi]
  exact h
theorem ck_orw {a v i : Nat} (ha : a < 8 ^ i) (hv : v < 8) (hi : i < 6) : nI a ||| (nI v <<< ((3 * nI i) &&& 31)) = nI (a + v * 8 ^ i) := by
  have e : (8 : Nat) ^ i = 2 ^ (3 * i) := by rw [Nat.pow_mul]
  have hb : v * 2 ^ (3 * i) < 2 ^ 32 := by
    rw [← e]
    have : 8 ^ i ≤ 8 ^ 5 := Nat.pow_le_pow_right (by decide) (by omega)
    have h2 : v * 8 ^ i ≤ 7 * 8 ^ 5 := Nat.mul_le_mul (by omega) this
    omega
  rw [pk_shlN _ (3 * i) (ck_c3 i hi) hb, ck_nor, Nat.or_comm, Nat.mul_comm v, ← Nat.two_pow_add_eq_or_of_lt (by rw [← e]; exact ha), e, Nat.mul_comm v, Nat.add_comm]
theorem ck_su8 {f : Nat → Nat} (h : ∀ i, f i < 8) (i : Nat) : ck_su (fun i => f i * 8 ^ i) i < 8 ^ i := by
  induction i with
  | zero => exact Nat.one_pos
  | succ i ih =>
    show ck_su (fun i => f i * 8 ^ i) i + f i * 8 ^ i < 8 ^ (i + 1)
    have h1 : f i * 8 ^ i ≤ 7 * 8 ^ i := Nat.mul_le_mul_right _ (by have := h i; omega)
    rw [Nat.pow_succ]
    omega
theorem ck_both {post : Int32 → Prop} {g h : Nat} (hg : ck_P g) (hh : h < 262144) (H : post (nI (ck_mul g h))) : wpX_both post (cnt, cc, li, sz, shs, a1, a2, a3, a4, a5, a6) (nI g) (nI h) := by
  refine pk_loop (σ := Unit) (fun n i _ => wX_both_5 post (nI g) (nI h) cnt cc li sz shs a1 a2 a3 a4 a5 a6 n (nI (ck_su (fun i => ck_im h (ck_im g i) * 8 ^ i) i)) (nI i)) (fun _ _ => True) 6 0 () (by omega) trivial ?_ ?_
  · intro n _ _
    exact pk_le 6 6 (fun _ => H) (fun z => absurd z (by omega))
  · intro n i _ hi _ hw
    refine pk_le 6 i (fun z => absurd z (by omega)) (fun _ => ?_)
    refine ck_image hg.1 hi (ck_image hh (hg.2.1 i hi) ?_)
    refine nm_r (ck_orw (ck_su8 (fun i => ck_im_lt8 _ _) i) (ck_im_lt8 _ _) hi) (nm_r (nI_1 i) (hw () trivial))
theorem ck_power {post : Int32 → Prop} {a n : Nat} (hn : n < 2 ^ 31) (H : post (nI (a ^ n))) : wpX_power post (cnt, cc, li, sz, shs, a1, a2, a3, a4, a5, a6) (nI a) (nI n) := by
  refine pk_loop (σ := Unit) (fun f i _ => wX_power_5 post (nI a) (nI n) cnt cc li sz shs a1 a2 a3 a4 a5 a6 f (nI (a ^ i)) (nI i)) (fun _ _ => True) n 0 () (by omega) trivial ?_ ?_
  · intro f _ _
    exact pk_le n n (fun _ => H) (fun z => absurd z (by omega))
  · intro f i _ hi _ hw
    exact pk_le n i (fun z => absurd z (by omega)) (fun _ => nm_r (by rw [pk_mul]; rfl) (nm_r (nI_1 i) (hw () trivial)))
theorem ck_cyclesOf {post : Int32 → Prop} {s l : Nat} (hs : s < 2 ^ 31) (hl : l < 6) (H : post (nI (ck_cc s (l + 1)))) : wpX_cyclesOf post (cnt, cc, li, sz, shs, a1, a2, a3, a4, a5, a6) (nI s) (nI (l + 1)) := by
  show post ((nI s >>> (((4 * nI (l + 1)) - 4) &&& 31)) &&& 15)
  rw [pk_shrN hs _ (4 * l) (ck_c4 l hl), pk_andN (show s / 2 ^ (4 * l) < 2 ^ 32 by have := Nat.div_le_self s (2 ^ (4 * l)); omega) 4 (by decide)]
  exact H
theorem ck_allCycles {post : Int32 → Prop} {s : Nat} (hs : s < 2 ^ 31) (H : post (nI (ck_ac s))) : wpX_allCycles post (cnt, cc, li, sz, shs, a1, a2, a3, a4, a5, a6) (nI s) := by
  refine pk_loop (σ := Unit) (fun f i _ => wX_allCycles_4 post (nI s) cnt cc li sz shs a1 a2 a3 a4 a5 a6 f (nI (ck_su (fun l => ck_cc s (l + 1)) i)) (nI (i + 1))) (fun _ _ => True) 6 0 () (by omega) trivial ?_ ?_
  · intro f _ _
    exact pk_lt 6 7 (fun _ => H) (fun z => absurd z (by omega))
  · intro f i _ hi _ hw
    refine pk_lt 6 (i + 1) (fun z => absurd z (by omega)) (fun _ => ck_cyclesOf hs hi ?_)
    exact nm_r (nI_add _ _) (nm_r (nI_1 _) (hw () trivial))
end
end
section
/-! part 7: shapeOf, carried, leastOf, bad -/
section
variable {cnt cc li sz shs : Int32} {a1 a2 a3 a4 a5 a6 : Nat → Int32}
theorem ck_bit : ∀ s, s < 64 → ∀ a, a < 6 → ((nI s >>> (nI a &&& 31)) &&& 1) = nI (s / 2 ^ a % 2) := by decide +kernel
theorem ck_bor : ∀ s, s < 64 → ∀ a, a < 6 → nI s ||| ((1 : Int32) <<< (nI a &&& 31)) = nI (s ||| 2 ^ a) ∧ s ||| 2 ^ a < 64 := by decide +kernel
theorem ck_b4 : ∀ l, l < 7 → 0 < l → (1 : Int32) <<< (((4 * nI l) - 4) &&& 31) = nI (2 ^ (4 * l - 4)) := by decide +kernel
theorem ck_cy_b {g : Nat} (hg : ck_P g) : ∀ k s l a, s < 64 → a < 6 → (ck_cy g k s l a).1 < 64 ∧ (ck_cy g k s l a).2 ≤ l + k := by
  intro k
  induction k with
  | zero => exact fun s l a hs _ => ⟨hs, Nat.le_refl _⟩
  | succ k ih =>
    intro s l a hs ha
    unfold ck_cy
    split
    · have := ih (s ||| 2 ^ a) (l + 1) (ck_im g a) (ck_bor s hs a ha).2 (hg.2.1 a ha)
      exact ⟨this.1, by omega⟩
    · exact ⟨hs, by show l ≤ l + (k + 1); omega⟩
theorem ck_sh24 {post : Int32 → Prop} {J : Int32 → Int32 → Int32 → Prop} {g : Nat} (hg : ck_P g) {x3 x4 : Int32} : ∀ k s l a, k ≤ 6 → s < 64 → a < 6 →
    wX_shapeOf_65 post J (nI g) (nI (ck_cy g k s l a).1) x3 x4 (nI (ck_cy g k s l a).2) cnt cc li sz shs a1 a2 a3 a4 a5 a6 → wX_shapeOf_24 post J (nI g) x3 x4 cnt cc li sz shs a1 a2 a3 a4 a5 a6 (k + 1) (nI s) (nI l) (nI a) (nI (6 - k)) := by
  intro k
  induction k with
  | zero =>
    intro s l a _ hs ha H
    exact pk_le 6 6 (fun _ => H) (fun z => absurd z (by omega))
  | succ k ih =>
    intro s l a hk hs ha H
    refine pk_le 6 (6 - (k + 1)) (fun z => absurd z (by omega)) (fun _ => ?_)
    rw [ck_bit s hs a ha]
    unfold ck_cy at H
    by_cases h : s / 2 ^ a % 2 = 0
    · rw [if_pos h] at H
      refine br_t (by rw [h]; rfl) (nm_r (ck_bor s hs a ha).1 (ck_image hg.1 ha (nm_r (nI_1 l) (nm_r (show nI (6 - (k + 1)) + 1 = nI (6 - k) by rw [nI_1, show 6 - (k + 1) + 1 = 6 - k by omega]) ?_))))
      exact ih _ _ _ (by omega) (ck_bor s hs a ha).2 (hg.2.1 a ha) H
    · rw [if_neg h] at H
      exact br_f (nI_ne0 (by omega) (by omega)) H
theorem ck_sh65 {post : Int32 → Prop} {J : Int32 → Int32 → Int32 → Prop} {x1 : Int32} {s o i l : Nat} (hl : l ≤ 6) (H : J (nI s) (nI (o + ck_sl l)) (nI (i + 1))) :
    wX_shapeOf_65 post J x1 (nI s) (nI o) (nI i) (nI l) cnt cc li sz shs a1 a2 a3 a4 a5 a6 := by
  by_cases h : l = 0
  · rw [h] at H ⊢
    exact br_t (by decide) (nm_r (nI_1 i) H)
  · refine br_f (nI_nle (by omega) (by omega)) (nm_r (e' := nI (o + ck_sl l)) ?_ (nm_r (nI_1 i) H))
    rw [ck_b4 l (by omega) (by omega), nI_add]
    unfold ck_sl
    rw [if_neg h]
theorem ck_so_s (g i : Nat) : ck_so g (i + 1) = ((ck_cy g 6 (ck_so g i).1 0 i).1, (ck_so g i).2 + ck_sl (ck_cy g 6 (ck_so g i).1 0 i).2) := rfl
theorem ck_so_b {g : Nat} (hg : ck_P g) (i : Nat) (hi : i ≤ 6) : (ck_so g i).1 < 64 := by
  induction i with
  | zero => exact (by decide : (0 : Nat) < 64)
  | succ i ih =>
    rw [ck_so_s]
    exact (ck_cy_b hg 6 _ 0 i (ih (by omega)) (by omega)).1
theorem ck_shapeOf {post : Int32 → Prop} {g : Nat} (hg : ck_P g) (H : post (nI (ck_sh g))) : wpX_shapeOf post (cnt, cc, li, sz, shs, a1, a2, a3, a4, a5, a6) (nI g) := by
  refine pk_loop (σ := Unit) (fun n i _ => wX_shapeOf_7 post (nI g) cnt cc li sz shs a1 a2 a3 a4 a5 a6 n (nI (ck_so g i).1) (nI (ck_so g i).2) (nI i)) (fun _ _ => True) 6 0 () (by omega) trivial ?_ ?_
  · intro n _ _
    exact pk_le 6 6 (fun _ => H) (fun z => absurd z (by omega))
  · intro n i _ hi _ hw
    refine pk_le 6 i (fun z => absurd z (by omega)) (fun _ => ⟨7, ?_⟩)
    have hb := ck_so_b hg i (by omega)
    refine ck_sh24 hg 6 (ck_so g i).1 0 i (by omega) hb hi (ck_sh65 ?_ ?_)
    · have := (ck_cy_b hg 6 (ck_so g i).1 0 i hb hi).2
      omega
    · have t := hw () trivial
      rw [ck_so_s] at t
      exact t
theorem ck_carried {post : Int32 → Prop} {c x g : Nat} (hc : ck_ok c) (hg : ck_P g) (hx : x < c ^ 6) (H : post (nI (ck_act c x g))) : wpX_carried post (cnt, nI c, li, sz, shs, a1, a2, a3, a4, a5, a6) (nI x) (nI g) := by
  have hc6 := ck_c6 hc
  have hcp := ck_ok_pos hc
  have hc3 : c < 4 := by rcases hc with e | e | e <;> omega
  refine pk_loop (σ := Nat) (fun n i s => wX_carried_8 post (nI g) cnt (nI c) li sz shs a1 a2 a3 a4 a5 a6 n (nI s) (nI (ck_su (fun i => ck_dg c x i * c ^ ck_im g i) i)) (nI i)) (fun i s => s = x / c ^ i) 6 0 x (by omega) (by simp) ?_ ?_
  · intro n s _
    exact pk_le 6 6 (fun _ => H) (fun z => absurd z (by omega))
  · intro n i s hi hs hw
    have hsl : s ≤ x := by
      rw [hs]
      exact Nat.div_le_self _ _
    refine pk_le 6 i (fun z => absurd z (by omega)) (fun _ => ck_image hg.1 hi ⟨nI_ne0 hcp (by omega), ck_power (by have := ck_im_lt8 g i; omega) ?_⟩)
    refine nm_r (e' := nI (ck_su (fun i => ck_dg c x i * c ^ ck_im g i) (i + 1))) ?_ ⟨nI_ne0 hcp (by omega), nm_r (pk_div (by omega) hcp (by omega)) (nm_r (nI_1 i) (hw _ ?_))⟩
    · rw [pk_rem (by omega) hcp (by omega), pk_mul, nI_add, hs]
      rfl
    · rw [hs, Nat.div_div_eq_div_mul, Nat.pow_succ]
theorem ck_take {G : List Nat} {k : Nat} (h : k < G.length) : G.take (k + 1) = G.take k ++ [G.getD k 0] := by
  rw [List.take_succ, List.getElem?_eq_getElem h, List.getD_eq_getElem?_getD, List.getElem?_eq_getElem h]
  rfl
theorem ck_getD_mem {G : List Nat} {k : Nat} (h : k < G.length) : G.getD k 0 ∈ G := by
  rw [List.getD_eq_getElem?_getD, List.getElem?_eq_getElem h]
  exact List.getElem_mem h
theorem ck_leastOf {post : Int32 → Prop} {c x : Nat} {G : List Nat} (hc : ck_ok c) (hn : G.length ≤ 720) (hG : ∀ g, g ∈ G → ck_P g) (ha : ∀ k, k < G.length → a2 k = nI (G.getD k 0)) (hx : x < c ^ 6)
    (H : ∀ m, ck_isN (ck_act c) G x m → post (nI m)) : wpX_leastOf post (cnt, nI c, li, nI G.length, shs, a1, a2, a3, a4, a5, a6) (nI x) := by
  have hc6 := ck_c6 hc
  refine pk_loop (σ := Nat) (fun n k m => wX_leastOf_4 post (nI x) cnt (nI c) li (nI G.length) shs a1 a2 a3 a4 a5 a6 n (nI m) (nI k)) (fun k m => ck_isN (ck_act c) (G.take k) x m) G.length 0 x (by omega) ?_ ?_ ?_
  · exact ⟨Or.inl rfl, Nat.le_refl _, fun g hg => absurd hg (by simp)⟩
  · intro n m hm
    rw [List.take_length] at hm
    exact pk_le G.length G.length (fun _ => H m hm) (fun z => absurd z (by omega))
  · intro n k m hk hm hw
    have hg := hG _ (ck_getD_mem hk)
    refine pk_le G.length k (fun z => absurd z (by omega)) (fun _ => ⟨pk_in k 720 (by omega), ?_⟩)
    rw [nI_clamp (show k < 2 ^ 31 by omega), ha k hk]
    refine ck_carried hc hg hx ?_
    have hal := ck_act_lt hc hg x
    have hmx := hm.2.1
    have st := ck_isN_step (g := G.getD k 0) hm
    rw [← ck_take hk] at st
    refine pk_le m (ck_act c x (G.getD k 0)) (fun z => ?_) (fun z => ?_)
    · rw [if_pos z] at st
      exact nm_r (nI_1 k) (hw _ st)
    · rw [if_neg (by omega)] at st
      exact nm_r (nI_1 k) (hw _ st)
theorem ck_bad {post : Int32 → Prop} {c x : Nat} (hc : ck_ok c) (hx : x < c ^ 6) (H : post 0) : wpX_bad post (cnt, nI c, li, sz, shs, a1, a2, a3, a4, a5, a6) (nI x) := by
  have hc6 := ck_c6 hc
  refine br_f (nI_pos (by omega)) (ck_power (n := 6) (by omega) ?_)
  exact br_t (nI_lt hx (by omega)) H
theorem ck_size19 {post : Int32 → St1 → Prop} {c x : Nat} {G : List Nat} (hc : ck_ok c) (hn : G.length ≤ 720) (hG : ∀ g, g ∈ G → ck_P g) (ha : ∀ k, k < G.length → a2 k = nI (G.getD k 0)) (hx : x < c ^ 6)
    (h0 : 0 < G.countP (fun g => ck_act c x g == x)) (H : post (nI (G.length / G.countP (fun g => ck_act c x g == x))) (cnt, nI c, li, nI G.length, shs, a1, a2, a3, a4, a5, a6)) : ∃ n, wX_size_19 post (nI x) cnt (nI c) li (nI G.length) shs a1 a2 a3 a4 a5 a6 n 0 0 := by
  have hc6 := ck_c6 hc
  refine pk_loop (σ := Nat) (fun n k l => wX_size_19 post (nI x) cnt (nI c) li (nI G.length) shs a1 a2 a3 a4 a5 a6 n (nI l) (nI k)) (fun k l => l = (G.take k).countP (fun g => ck_act c x g == x)) G.length 0 0 (by omega) (by simp) ?_ ?_
  · intro n l hl
    rw [List.take_length] at hl
    have hle : G.countP (fun g => ck_act c x g == x) ≤ G.length := List.countP_le_length
    refine pk_le G.length G.length (fun _ => ?_) (fun z => absurd z (by omega))
    rw [hl]
    refine br_f (nI_nle h0 (by omega)) ⟨nI_ne0 h0 (by omega), ?_⟩
    rw [pk_div (by omega) h0 (by omega)]
    exact H
  · intro n k l hk hl hw
    have hg := hG _ (ck_getD_mem hk)
    refine pk_le G.length k (fun z => absurd z (by omega)) (fun _ => ⟨pk_in k 720 (by omega), ?_⟩)
    rw [nI_clamp (show k < 2 ^ 31 by omega), ha k hk]
    refine ck_carried hc hg hx ?_
    have hal := ck_act_lt hc hg x
    have st : (G.take (k + 1)).countP (fun g => ck_act c x g == x) = l + if (ck_act c x (G.getD k 0) == x) = true then 1 else 0 := by
      rw [ck_take hk, List.countP_append, ← hl, List.countP_singleton]
    refine pk_eq (ck_act c x (G.getD k 0)) x (fun z => ?_) (fun z => ?_)
    · rw [if_pos (beq_iff_eq.mpr z)] at st
      exact nm_r (nI_1 l) (nm_r (nI_1 k) (hw _ st.symm))
    · rw [if_neg (fun t => z (beq_iff_eq.mp t))] at st
      exact nm_r (nI_1 k) (hw _ st.symm)
end
end
section
/-! part 8: the list of shapes; the sums over it -/
def ck_Hs (S : List Nat) (N : Nat → Nat) (shs : Int32) (a4 a5 : Nat → Int32) : Prop :=
  S.Nodup ∧ (∀ s, s ∈ S → s ∈ ck_shapes) ∧ shs = nI S.length ∧ (∀ j, j < S.length → a4 j = nI (S.getD j 0) ∧ a5 j = nI (N j))
def ck_hs (S : List Nat) (N : Nat → Nat) (f : Nat → Nat) : Nat := ck_su (fun j => N j * f (S.getD j 0)) S.length
theorem ck_sh_lt : ∀ s, s ∈ ck_shapes → s < 2 ^ 31 := by decide +kernel
theorem ck_sh_11 {S : List Nat} (h : S.Nodup) (hs : ∀ s, s ∈ S → s ∈ ck_shapes) : S.length ≤ 11 := h.length_le_of_subset (l₂ := ck_shapes) (fun s t => hs s t)
section
variable {cnt cc li sz shs : Int32} {a1 a2 a3 a4 a5 a6 : Nat → Int32}
theorem ck_countShape {post : St1 → Prop} {S : List Nat} {N : Nat → Nat} {s : Nat} (h : ck_Hs S N shs a4 a5) (hs : s ∈ ck_shapes)
    (H : ∀ S' N' shs' a4' a5', ck_Hs S' N' shs' a4' a5' → (∀ f, ck_hs S' N' f = ck_hs S N f + f s) → post (cnt, cc, li, sz, shs', a1, a2, a3, a4', a5', a6)) : wpX_countShape post (cnt, cc, li, sz, shs, a1, a2, a3, a4, a5, a6) (nI s) := by
  obtain ⟨h1, h2, h3, h4⟩ := h
  have h11 := ck_sh_11 h1 h2
  subst h3
  have hsl := ck_sh_lt s hs
  refine lp1 (fun n (k : Nat) => wX_countShape_2 post (nI s) cnt cc li sz (nI S.length) a1 a2 a3 a4 a5 a6 n (nI k)) (fun k => k ≤ S.length ∧ ∀ j, j < k → S.getD j 0 ≠ s) (fun k => S.length - k) ?_ 0 ⟨by omega, fun j hj => absurd hj (by omega)⟩
  intro n k ⟨hk, hne⟩ hw
  refine pk_le S.length k (fun z => ?_) (fun z => ?_)
  · have e : k = S.length := by omega
    subst e
    have hnm : s ∉ S := by
      intro hm
      obtain ⟨j, hj, e⟩ := List.getElem_of_mem hm
      refine hne j hj ?_
      rw [List.getD_eq_getElem?_getD, List.getElem?_eq_getElem hj, Option.getD_some]
      exact e
    have hN' : (S ++ [s]).Nodup := by
      rw [List.nodup_append]
      refine ⟨h1, by simp, fun a ha b hb e => ?_⟩
      have : b = s := by simpa using hb
      rw [e, this] at ha
      exact hnm ha
    have hS' : ∀ t, t ∈ S ++ [s] → t ∈ ck_shapes := by
      intro t ht
      rcases List.mem_append.mp ht with u | u
      · exact h2 t u
      · have : t = s := by simpa using u
        rw [this]
        exact hs
    have h12 := ck_sh_11 hN' hS'
    have hlen : (S ++ [s]).length = S.length + 1 := by simp
    rw [hlen] at h12
    have hlo : ∀ j, j < S.length → (S ++ [s]).getD j 0 = S.getD j 0 := by
      intro j hj
      rw [List.getD_eq_getElem?_getD, List.getD_eq_getElem?_getD, List.getElem?_append_left hj]
    have hhi : (S ++ [s]).getD S.length 0 = s := by
      rw [List.getD_eq_getElem?_getD, List.getElem?_append_right (by omega)]
      simp
    refine ⟨pk_in S.length 12 (by omega), nm_e ⟨pk_in S.length 12 (by omega), nm_e (nm_r (nI_1 S.length) (H (S ++ [s]) (fun j => if j = S.length then 1 else N j) _ _ _ ⟨hN', hS', by rw [hlen], ?_⟩ ?_))⟩⟩
    · intro j hj
      rw [nI_clamp (show S.length < 2 ^ 31 by omega)]
      by_cases e : j = S.length
      · rw [e, pk_us, pk_us, hhi]
        exact ⟨rfl, by simp; rfl⟩
      · rw [pk_un e, pk_un e, hlo j (by omega)]
        simp only [if_neg e]
        exact h4 j (by omega)
    · intro f
      unfold ck_hs
      rw [hlen]
      show ck_su _ S.length + (if S.length = S.length then 1 else N S.length) * f ((S ++ [s]).getD S.length 0) = _
      rw [hhi, if_pos rfl, Nat.one_mul]
      congr 1
      apply ck_su_congr
      intro j hj
      rw [hlo j hj]
      dsimp only
      rw [if_neg (by omega)]
  · refine ⟨pk_in k 12 (by omega), ?_⟩
    rw [nI_clamp (show k < 2 ^ 31 by omega), (h4 k z).1, (h4 k z).2]
    have hkS := h2 _ (ck_getD_mem z)
    refine pk_eq (S.getD k 0) s (fun e => ?_) (fun e => ?_) (ha := ck_sh_lt _ hkS) (hb := hsl)
    · refine ⟨pk_in k 12 (by omega), pk_in k 12 (by omega), nm_e (H S (fun j => if j = k then N k + 1 else N j) _ _ _ ⟨h1, h2, rfl, ?_⟩ ?_)⟩
      · intro j hj
        by_cases ej : j = k
        · rw [ej, pk_us]
          refine ⟨(h4 k z).1, ?_⟩
          rw [nI_1]
          simp
        · rw [pk_un ej]
          simp only [if_neg ej]
          exact h4 j hj
      · intro f
        unfold ck_hs
        have : ∀ m, m ≤ S.length → ck_su (fun j => (if j = k then N k + 1 else N j) * f (S.getD j 0)) m = ck_su (fun j => N j * f (S.getD j 0)) m + if k < m then f s else 0 := by
          intro m
          induction m with
          | zero => exact fun _ => rfl
          | succ m ih =>
            intro hm
            show ck_su _ m + (if m = k then N k + 1 else N m) * f (S.getD m 0) = ck_su _ m + N m * f (S.getD m 0) + _
            rw [ih (by omega)]
            by_cases em : m = k
            · rw [em, if_pos rfl, if_neg (by omega), if_pos (by omega), e, Nat.succ_mul]
              omega
            · rw [if_neg em]
              by_cases el : k < m
              · rw [if_pos el, if_pos (by omega)]
                omega
              · rw [if_neg el, if_neg (by omega)]
                rfl
        rw [this S.length (Nat.le_refl _), if_pos z]
    · refine nm_r (nI_1 k) (hw (k + 1) ⟨by omega, ?_⟩ (by omega))
      intro j hj
      by_cases ej : j = k
      · rw [ej]
        exact e
      · exact hne j (by omega)
/-- the sum of counts times what is asked of a shape -/
theorem ck_kindsOf {post : Int32 → Prop} {S : List Nat} {N : Nat → Nat} {c n q : Nat} (h : ck_Hs S N shs a4 a5) (hn : 0 < n) (hn2 : n ≤ 720) (hq : q ≤ 729) (hs : ck_hs S N (fun s => c ^ ck_ac s) = n * q) (H : post (nI q)) :
    wpX_kindsOf post (cnt, cc, li, nI n, shs, a1, a2, a3, a4, a5, a6) (nI c) := by
  obtain ⟨h1, h2, h3, h4⟩ := h
  have h11 := ck_sh_11 h1 h2
  subst h3
  refine pk_loop (σ := Unit) (fun f k _ => wX_kindsOf_4 post (nI c) cnt cc li (nI n) (nI S.length) a1 a2 a3 a4 a5 a6 f (nI (ck_su (fun j => N j * c ^ ck_ac (S.getD j 0)) k)) (nI k)) (fun _ _ => True) S.length 0 () (by omega) trivial ?_ ?_
  · intro f _ _
    refine pk_le S.length S.length (fun _ => br_f (nI_nle hn (by omega)) ⟨nI_ne0 hn (by omega), ?_⟩) (fun z => absurd z (by omega))
    have hs' : ck_su (fun j => N j * c ^ ck_ac (S.getD j 0)) S.length = n * q := hs
    have hb : n * q ≤ 720 * 729 := Nat.mul_le_mul hn2 hq
    rw [hs', pk_div (by omega) hn (by omega), Nat.mul_div_cancel_left _ hn]
    exact H
  · intro f k _ hk _ hw
    have hkS := ck_sh_lt _ (h2 _ (ck_getD_mem hk))
    refine pk_le S.length k (fun z => absurd z (by omega)) (fun _ => ⟨pk_in k 12 (by omega), ?_⟩)
    rw [nI_clamp (show k < 2 ^ 31 by omega), (h4 k hk).1, (h4 k hk).2]
    refine ck_allCycles hkS (ck_power ?_ ⟨pk_in k 12 (by omega), nm_r (by rw [pk_mul, nI_add]; rfl) (nm_r (nI_1 k) (hw () trivial))⟩)
    have : ∀ s, ck_ac s ≤ 90 := by
      intro s
      have hc : ∀ l, ck_cc s l ≤ 15 := fun l => Nat.le_of_lt_succ (Nat.mod_lt _ (by decide))
      have := hc 1
      have := hc 2
      have := hc 3
      have := hc 4
      have := hc 5
      have := hc 6
      show 0 + ck_cc s 1 + ck_cc s 2 + ck_cc s 3 + ck_cc s 4 + ck_cc s 5 + ck_cc s 6 ≤ 90
      omega
    have := this (S.getD k 0)
    omega
theorem ck_orbitCount {post : Int32 → Prop} {S : List Nat} {N : Nat → Nat} {n q : Nat} (h : ck_Hs S N shs a4 a5) (hn : 0 < n) (hn2 : n ≤ 720) (hq : q ≤ 729) (hs : ck_hs S N (fun s => ck_cc s 1) = n * q) (H : post (nI q)) :
    wpX_orbitCount post (cnt, cc, li, nI n, shs, a1, a2, a3, a4, a5, a6) := by
  obtain ⟨h1, h2, h3, h4⟩ := h
  have h11 := ck_sh_11 h1 h2
  subst h3
  refine pk_loop (σ := Unit) (fun f k _ => wX_orbitCount_4 post cnt cc li (nI n) (nI S.length) a1 a2 a3 a4 a5 a6 f (nI (ck_su (fun j => N j * ck_cc (S.getD j 0) 1) k)) (nI k)) (fun _ _ => True) S.length 0 () (by omega) trivial ?_ ?_
  · intro f _ _
    refine pk_le S.length S.length (fun _ => br_f (nI_nle hn (by omega)) ⟨nI_ne0 hn (by omega), ?_⟩) (fun z => absurd z (by omega))
    have hs' : ck_su (fun j => N j * ck_cc (S.getD j 0) 1) S.length = n * q := hs
    have hb : n * q ≤ 720 * 729 := Nat.mul_le_mul hn2 hq
    rw [hs', pk_div (by omega) hn (by omega), Nat.mul_div_cancel_left _ hn]
    exact H
  · intro f k _ hk _ hw
    have hkS := ck_sh_lt _ (h2 _ (ck_getD_mem hk))
    refine pk_le S.length k (fun z => absurd z (by omega)) (fun _ => ⟨pk_in k 12 (by omega), ?_⟩)
    rw [nI_clamp (show k < 2 ^ 31 by omega), (h4 k hk).1, (h4 k hk).2]
    exact ck_cyclesOf (l := 0) hkS (by omega) ⟨pk_in k 12 (by omega), nm_r (by rw [pk_mul, nI_add]; rfl) (nm_r (nI_1 k) (hw () trivial))⟩
theorem ck_withC8 {post : Int32 → St1 → Prop} {S : List Nat} {N : Nat → Nat} {q : Nat} (h : ck_Hs S N shs a4 a5) (hq : q < 7) (H : post (nI (ck_hs S N (fun s => if ck_ac s = q then 1 else 0))) (cnt, cc, li, sz, shs, a1, a2, a3, a4, a5, a6)) :
    ∃ f, wX_withCycles_8 post (nI q) cnt cc li sz shs a1 a2 a3 a4 a5 a6 f 0 0 := by
  obtain ⟨h1, h2, h3, h4⟩ := h
  have h11 := ck_sh_11 h1 h2
  subst h3
  refine pk_loop (σ := Nat) (fun f k x => wX_withCycles_8 post (nI q) cnt cc li sz (nI S.length) a1 a2 a3 a4 a5 a6 f (nI x) (nI k)) (fun k x => x = ck_su (fun j => N j * if ck_ac (S.getD j 0) = q then 1 else 0) k) S.length 0 0 (by omega) rfl ?_ ?_
  · intro f x hx
    rw [hx]
    exact pk_le S.length S.length (fun _ => H) (fun z => absurd z (by omega))
  · intro f k x hk hx hw
    have hkS := ck_sh_lt _ (h2 _ (ck_getD_mem hk))
    refine pk_le S.length k (fun z => absurd z (by omega)) (fun _ => ⟨pk_in k 12 (by omega), ?_⟩)
    rw [nI_clamp (show k < 2 ^ 31 by omega), (h4 k hk).1, (h4 k hk).2]
    have hb : ck_ac (S.getD k 0) < 2 ^ 31 := by
      have hc : ∀ l, ck_cc (S.getD k 0) l ≤ 15 := fun l => Nat.le_of_lt_succ (Nat.mod_lt _ (by decide))
      have := hc 1
      have := hc 2
      have := hc 3
      have := hc 4
      have := hc 5
      have := hc 6
      show 0 + ck_cc (S.getD k 0) 1 + ck_cc (S.getD k 0) 2 + ck_cc (S.getD k 0) 3 + ck_cc (S.getD k 0) 4 + ck_cc (S.getD k 0) 5 + ck_cc (S.getD k 0) 6 < 2 ^ 31
      omega
    refine ck_allCycles hkS (pk_eq (ck_ac (S.getD k 0)) q (fun e => ⟨pk_in k 12 (by omega), nm_r (nI_add _ _) (nm_r (nI_1 k) (hw _ ?_))⟩) (fun e => nm_r (nI_1 k) (hw _ ?_)) (ha := hb))
    · show _ = ck_su _ k + N k * _
      rw [if_pos e, Nat.mul_one, hx]
    · show _ = ck_su _ k + N k * _
      rw [if_neg e, Nat.mul_zero, hx, Nat.add_zero]
end
end
section
/-! part 9: the table of places, enter -/
def ck_tv (t : Nat) : Int32 := if t = 0 then -1 else nI (t - 1)
def ck_hh (g : Nat) : Nat := (((nI g ^^^ (nI g >>> ((7 : Int32) &&& 31))) * 37) &&& 2047).toNatClampNeg
theorem ck_hh_e (g : Nat) : ((nI g ^^^ (nI g >>> ((7 : Int32) &&& 31))) * 37) &&& 2047 = nI (ck_hh g) ∧ ck_hh g < 2048 := by
  obtain ⟨j, hj, e⟩ := pk_andE ((nI g ^^^ (nI g >>> ((7 : Int32) &&& 31))) * 37) (m := 2047) 11 (by decide)
  unfold ck_hh
  rw [e, nI_clamp (by omega)]
  exact ⟨rfl, by omega⟩
theorem ck_tv_0 : ck_tv 0 < 0 := by decide
theorem ck_tv_s (k : Nat) : ck_tv (k + 1) = nI k := by
  unfold ck_tv
  rw [if_neg (by omega)]
  rfl
/-- the table: T a = 0: empty; k + 1: the code at k of the list; each code is found along its way -/
def ck_HT (G : List Nat) (T : Nat → Nat) : Prop :=
  (∀ a, a < 2048 → T a ≤ G.length) ∧ (∀ a, a < 2048 → ∀ b, b < 2048 → T a = T b → T a ≠ 0 → a = b) ∧
  (∀ k, k < G.length → ∃ d, T ((ck_hh (G.getD k 0) + d) % 2048) = k + 1 ∧ ∀ e, e < d → T ((ck_hh (G.getD k 0) + e) % 2048) ≠ 0)
def ck_Hx (G : List Nat) (a2 a3 : Nat → Int32) : Prop :=
  ∃ T : Nat → Nat, (∀ k, k < G.length → a2 k = nI (G.getD k 0)) ∧ (∀ a, a < 2048 → a3 a = ck_tv (T a)) ∧ ck_HT G T
theorem ck_HT_hole {G : List Nat} {T : Nat → Nat} (h : ck_HT G T) (hn : G.length ≤ 720) (p : Nat) (ha : ∀ e, e < 2048 → T ((p + e) % 2048) ≠ 0) : False := by
  have h1 : ((List.range 2048).map (fun e => T ((p + e) % 2048))).Nodup := by
    refine ck_ndmap List.nodup_range (fun x hx y hy e => ?_)
    have hx' := List.mem_range.mp hx
    have hy' := List.mem_range.mp hy
    have := h.2.1 ((p + x) % 2048) (Nat.mod_lt _ (by omega)) ((p + y) % 2048) (Nat.mod_lt _ (by omega)) e (ha x hx')
    omega
  have h2 : ((List.range 2048).map (fun e => T ((p + e) % 2048))) ⊆ List.range (G.length + 1) := by
    intro y hy
    obtain ⟨x, _, e⟩ := List.mem_map.mp hy
    rw [← e]
    exact List.mem_range.mpr (Nat.lt_succ_of_le (h.1 _ (Nat.mod_lt _ (by omega))))
  have h3 := h1.length_le_of_subset h2
  rw [List.length_map, List.length_range, List.length_range] at h3
  omega
theorem ck_mem_getD {G : List Nat} {g : Nat} (h : g ∈ G) : ∃ k, k < G.length ∧ G.getD k 0 = g := by
  obtain ⟨j, hj, e⟩ := List.getElem_of_mem h
  exact ⟨j, hj, by rw [List.getD_eq_getElem?_getD, List.getElem?_eq_getElem hj, Option.getD_some]; exact e⟩
theorem ck_app_lo {G : List Nat} {g k : Nat} (h : k < G.length) : (G ++ [g]).getD k 0 = G.getD k 0 := by
  rw [List.getD_eq_getElem?_getD, List.getD_eq_getElem?_getD, List.getElem?_append_left h]
theorem ck_app_hi (G : List Nat) (g : Nat) : (G ++ [g]).getD G.length 0 = g := by
  rw [List.getD_eq_getElem?_getD, List.getElem?_append_right (Nat.le_refl _)]
  simp
theorem ck_app_len (G : List Nat) (g : Nat) : (G ++ [g]).length = G.length + 1 := by simp
theorem ck_HT_new {G : List Nat} {T : Nat → Nat} {g i : Nat} (h : ck_HT G T) (hb : ∀ e, e < i → ∃ k, T ((ck_hh g + e) % 2048) = k + 1 ∧ G.getD k 0 ≠ g) (h0 : T ((ck_hh g + i) % 2048) = 0) : g ∉ G := by
  intro hm
  obtain ⟨k, hk, e⟩ := ck_mem_getD hm
  obtain ⟨d, d1, d2⟩ := h.2.2 k hk
  rw [e] at d1 d2
  rcases Nat.lt_trichotomy d i with t | t | t
  · obtain ⟨k', u1, u2⟩ := hb d t
    have : k' = k := by omega
    rw [this] at u2
    exact u2 e
  · rw [t] at d1
    omega
  · exact d2 i t h0
theorem ck_HT_add {G : List Nat} {T : Nat → Nat} {g i : Nat} (h : ck_HT G T) (hb : ∀ e, e < i → T ((ck_hh g + e) % 2048) ≠ 0) (h0 : T ((ck_hh g + i) % 2048) = 0) :
    ck_HT (G ++ [g]) (fun a => if a = (ck_hh g + i) % 2048 then G.length + 1 else T a) := by
  refine ⟨fun a ha => ?_, fun a ha b hb2 => ?_, fun k hk => ?_⟩
  · rw [ck_app_len]
    dsimp only
    split
    · exact Nat.le_refl _
    · have := h.1 a ha
      omega
  · dsimp only
    have ha' := h.1 a ha
    have hb' := h.1 b hb2
    by_cases ea : a = (ck_hh g + i) % 2048
    · rw [if_pos ea]
      by_cases eb : b = (ck_hh g + i) % 2048
      · exact fun _ _ => by rw [ea, eb]
      · rw [if_neg eb]
        intro t _
        omega
    · rw [if_neg ea]
      by_cases eb : b = (ck_hh g + i) % 2048
      · rw [if_pos eb]
        intro t _
        omega
      · rw [if_neg eb]
        exact fun t u => h.2.1 a ha b hb2 t u
  · rw [ck_app_len] at hk
    by_cases ek : k = G.length
    · subst ek
      rw [ck_app_hi]
      refine ⟨i, by dsimp only; rw [if_pos rfl], fun e he => ?_⟩
      dsimp only
      split
      · omega
      · exact hb e he
    · rw [ck_app_lo (by omega)]
      obtain ⟨d, d1, d2⟩ := h.2.2 k (by omega)
      refine ⟨d, ?_, fun e he => ?_⟩
      · dsimp only
        rw [if_neg (fun t => by rw [t, h0] at d1; omega)]
        exact d1
      · dsimp only
        split
        · omega
        · exact d2 e he
section
variable {cnt cc li sz shs : Int32} {a1 a2 a3 a4 a5 a6 : Nat → Int32}
theorem ck_nd_app {G : List Nat} {g : Nat} (h : G.Nodup) (hn : g ∉ G) : (G ++ [g]).Nodup := by
  rw [List.nodup_append]
  refine ⟨h, by simp, fun a ha b hb e => ?_⟩
  have : b = g := by simpa using hb
  rw [e, this] at ha
  exact hn ha
theorem ck_mem_app {G : List Nat} {g x : Nat} : x ∈ G ++ [g] ↔ x ∈ G ∨ x = g := by simp
theorem ck_enter {post : St1 → Prop} {G : List Nat} {g : Nat} (hN : G.Nodup) (hP : ∀ x, x ∈ G → ck_P x) (hg : ck_P g) (hx : ck_Hx G a2 a3)
    (H : ∀ G' a2' a3', (G' = G ∧ g ∈ G ∨ G' = G ++ [g] ∧ g ∉ G) → ck_Hx G' a2' a3' → post (cnt, cc, li, nI G'.length, shs, a1, a2', a3', a4, a5, a6)) : wpX_enter post (cnt, cc, li, nI G.length, shs, a1, a2, a3, a4, a5, a6) (nI g) := by
  obtain ⟨T, t1, t2, t3⟩ := hx
  have hlen := ck_720 hN hP
  obtain ⟨e1, e2⟩ := ck_hh_e g
  refine nm_r e1 ?_
  have key : ∃ fu, wX_enter_16 post (nI g) cnt cc li (nI G.length) shs a1 a2 a3 a4 a5 a6 fu (nI ((ck_hh g + 0) % 2048)) (nI 0) := by
    refine lp1 (fun n (i : Nat) => wX_enter_16 post (nI g) cnt cc li (nI G.length) shs a1 a2 a3 a4 a5 a6 n (nI ((ck_hh g + i) % 2048)) (nI i)) (fun i => i ≤ 2048 ∧ ∀ e, e < i → ∃ k, T ((ck_hh g + e) % 2048) = k + 1 ∧ G.getD k 0 ≠ g) (fun i => 2048 - i) ?_ 0 ⟨by omega, fun e he => absurd he (by omega)⟩
    intro n i ⟨hi, hb⟩ hw
    have hi2 : i < 2048 := by
      rcases Nat.lt_or_ge i 2048 with t | t
      · exact t
      · exfalso
        refine ck_HT_hole t3 hlen (ck_hh g) (fun e he => ?_)
        obtain ⟨k, hk, _⟩ := hb e (by omega)
        omega
    have hp : (ck_hh g + i) % 2048 < 2048 := Nat.mod_lt _ (by omega)
    refine pk_le 2048 i (fun z => absurd z (by omega)) (fun _ => ⟨pk_in _ 2048 hp, ?_⟩)
    rw [nI_clamp (show (ck_hh g + i) % 2048 < 2 ^ 31 by omega), t2 _ hp]
    cases hT : T ((ck_hh g + i) % 2048) with
    | zero =>
      refine br_t ck_tv_0 ?_
      have hnew := ck_HT_new t3 hb hT
      have hNd := ck_nd_app hN hnew
      have hlen2 := ck_720 hNd (fun x hx => by
        rcases ck_mem_app.mp hx with u | u
        · exact hP x u
        · rw [u]
          exact hg)
      rw [ck_app_len] at hlen2
      refine ⟨pk_in ((ck_hh g + i) % 2048) 2048 hp, nm_e ⟨pk_in G.length 720 (by omega), nm_e (nm_r (nI_1 G.length) ?_)⟩⟩
      have fin := H (G ++ [g]) (upd a2 G.length (nI g)) (upd a3 ((ck_hh g + i) % 2048) (nI G.length)) (Or.inr ⟨rfl, hnew⟩)
        ⟨fun a => if a = (ck_hh g + i) % 2048 then G.length + 1 else T a, ?_, ?_, ck_HT_add t3 (fun e he => by obtain ⟨k, hk, _⟩ := hb e he; omega) hT⟩
      · rw [nI_clamp (show (ck_hh g + i) % 2048 < 2 ^ 31 by omega), nI_clamp (show G.length < 2 ^ 31 by omega)]
        rw [ck_app_len] at fin
        exact fin
      · intro k hk
        rw [ck_app_len] at hk
        by_cases ek : k = G.length
        · rw [ek, pk_us, ck_app_hi]
        · rw [pk_un ek, ck_app_lo (by omega)]
          exact t1 k (by omega)
      · intro a ha
        by_cases ea : a = (ck_hh g + i) % 2048
        · rw [ea, pk_us]
          simp only [if_pos]
          rw [ck_tv_s]
        · rw [pk_un ea]
          simp only [if_neg ea]
          exact t2 a ha
    | succ k =>
      have hk : k < G.length := by
        have := t3.1 _ hp
        omega
      rw [ck_tv_s]
      refine br_f (nI_pos (by omega)) ⟨pk_in _ 2048 hp, pk_in k 720 (by omega), ?_⟩
      rw [nI_clamp (show k < 2 ^ 31 by omega), t1 k hk]
      have hgk := hP _ (ck_getD_mem hk)
      refine pk_eq (G.getD k 0) g (fun e => ?_) (fun e => ?_) (ha := by have := hgk.1; omega) (hb := by have := hg.1; omega)
      · refine H G a2 a3 (Or.inl ⟨rfl, ?_⟩) ⟨T, t1, t2, t3⟩
        rw [← e]
        exact ck_getD_mem hk
      · refine nm_r (e' := nI ((ck_hh g + (i + 1)) % 2048)) ?_ (nm_r (nI_1 i) (hw (i + 1) ⟨by omega, fun e he => ?_⟩ (by omega)))
        · rw [nI_1, pk_andN (by omega) 11 (by decide)]
          congr 1
          omega
        · by_cases ee : e = i
          · rw [ee]
            exact ⟨k, hT, by assumption⟩
          · exact hb e (by omega)
  have hz : (ck_hh g + 0) % 2048 = ck_hh g := Nat.mod_eq_of_lt e2
  rw [hz] at key
  exact key
end
end
section
/-! part 10: listGroup -/
def ck_Ld (gs G : List Nat) (sz shs : Int32) (a2 a4 a5 : Nat → Int32) : Prop :=
  ck_G gs G ∧ sz = nI G.length ∧ (∀ k, k < G.length → a2 k = nI (G.getD k 0)) ∧ ∃ S N, ck_Hs S N shs a4 a5 ∧ ∀ f, ck_hs S N f = ck_ls (fun g => f (ck_sh g)) G
def ck_Lb (gs : List Nat) (c : Nat) (cnt cc : Int32) (a1 : Nat → Int32) : Prop :=
  gs.length ≤ 3 ∧ (∀ g, g ∈ gs → ck_P g) ∧ ck_ok c ∧ cnt = nI gs.length ∧ cc = nI c ∧ ∀ k, k < gs.length → a1 k = nI (gs.getD k 0)
/-- a state whose group is listed -/
def ck_Li (gs : List Nat) (c : Nat) (G : List Nat) (u : St1) : Prop := match u with
  | (cnt, cc, li, sz, shs, a1, a2, a3, a4, a5, a6) => ck_Lb gs c cnt cc a1 ∧ ¬ li = 0 ∧ ck_Ld gs G sz shs a2 a4 a5
/-- any state -/
def ck_Sx (gs : List Nat) (c : Nat) (u : St1) : Prop := match u with
  | (cnt, cc, li, sz, shs, a1, a2, a3, a4, a5, a6) => ck_Lb gs c cnt cc a1 ∧ (li = 0 ∨ ∃ G, ck_Ld gs G sz shs a2 a4 a5)
def ck_K (gs : List Nat) (i : Nat) (G : List Nat) : Prop :=
  G.Nodup ∧ (∀ g, g ∈ G → ck_P g) ∧ ck_id ∈ G ∧ (∀ g, g ∈ G → ck_W gs g) ∧ ∀ j, j < i → ∀ k, k ∈ gs → ck_mul (G.getD j 0) k ∈ G
theorem ck_K_add {gs G : List Nat} {i m : Nat} (h : ck_K gs i G) (hi : i ≤ G.length) (hm : m ∉ G) (hp : ck_P m) (hw : ck_W gs m) : ck_K gs i (G ++ [m]) := by
  obtain ⟨h1, h2, h3, h4, h5⟩ := h
  refine ⟨ck_nd_app h1 hm, fun g hg => ?_, ck_mem_app.mpr (Or.inl h3), fun g hg => ?_, fun j hj k hk => ?_⟩
  · rcases ck_mem_app.mp hg with u | u
    · exact h2 g u
    · rw [u]
      exact hp
  · rcases ck_mem_app.mp hg with u | u
    · exact h4 g u
    · rw [u]
      exact hw
  · rw [ck_app_lo (by omega)]
    exact ck_mem_app.mpr (Or.inl (h5 j hj k hk))
section
variable {cnt cc li sz shs : Int32} {a1 a2 a3 a4 a5 a6 : Nat → Int32}
theorem ck_l109 {post : St1 → Prop} {G : List Nat} (hn : G.length ≤ 720) (hP : ∀ g, g ∈ G → ck_P g) (ha : ∀ k, k < G.length → a2 k = nI (G.getD k 0))
    (H : ∀ shs' a4' a5', (∃ S N, ck_Hs S N shs' a4' a5' ∧ ∀ f, ck_hs S N f = ck_ls (fun g => f (ck_sh g)) G) → post (cnt, cc, 1, nI G.length, shs', a1, a2, a3, a4', a5', a6)) :
    ∃ fu, wX_listGroup_109 post fu 0 cnt cc li (nI G.length) 0 a1 a2 a3 a4 a5 a6 := by
  refine pk_loop (σ := Int32 × (Nat → Int32) × (Nat → Int32)) (fun n k s => wX_listGroup_109 post n (nI k) cnt cc li (nI G.length) s.1 a1 a2 a3 s.2.1 s.2.2 a6)
    (fun k s => ∃ S N, ck_Hs S N s.1 s.2.1 s.2.2 ∧ ∀ f, ck_hs S N f = ck_ls (fun g => f (ck_sh g)) (G.take k)) G.length 0 (0, a4, a5) (by omega) ?_ ?_ ?_
  · exact ⟨[], fun _ => 0, ⟨by simp, fun s hs => absurd hs (by simp), rfl, fun j hj => absurd hj (by simp)⟩, fun f => rfl⟩
  · intro n s hs
    rw [List.take_length] at hs
    exact pk_le G.length G.length (fun _ => H _ _ _ hs) (fun z => absurd z (by omega))
  · intro n k s hk ⟨S, N, hS, hf⟩ hw
    have hg := hP _ (ck_getD_mem hk)
    refine pk_le G.length k (fun z => absurd z (by omega)) (fun _ => ⟨pk_in k 720 (by omega), ?_⟩)
    rw [nI_clamp (show k < 2 ^ 31 by omega), ha k hk]
    refine ck_shapeOf hg (ck_countShape hS (ck_facts hg).1 ?_)
    intro S' N' shs' a4' a5' hS' hf'
    refine nm_r (nI_1 k) (hw (shs', a4', a5') ⟨S', N', hS', fun f => ?_⟩)
    rw [hf' f, hf f, ck_take hk, ck_ls_app]
    rfl
theorem ck_l60 {post : St1 → Prop} {J : Int32 → Int32 → Int32 → Int32 → Int32 → Int32 → (Nat → Int32) → (Nat → Int32) → (Nat → Int32) → (Nat → Int32) → (Nat → Int32) → (Nat → Int32) → Prop} {gs G : List Nat} {i : Nat}
    (hl : gs.length ≤ 3) (hgs : ∀ g, g ∈ gs → ck_P g) (ha1 : ∀ k, k < gs.length → a1 k = nI (gs.getD k 0)) (hK : ck_K gs i G) (hi : i < G.length) (hx : ck_Hx G a2 a3)
    (H : ∀ G' a2' a3', i < G'.length → ck_K gs (i + 1) G' → ck_Hx G' a2' a3' → J (nI (i + 1)) (nI gs.length) cc li (nI G'.length) shs a1 a2' a3' a4 a5 a6) :
    ∃ fu, wX_listGroup_60 post J (nI i) fu 0 (nI gs.length) cc li (nI G.length) shs a1 a2 a3 a4 a5 a6 := by
  refine pk_loop (σ := List Nat × (Nat → Int32) × (Nat → Int32)) (fun n k s => wX_listGroup_60 post J (nI i) n (nI k) (nI gs.length) cc li (nI s.1.length) shs a1 s.2.1 s.2.2 a4 a5 a6)
    (fun k s => ck_K gs i s.1 ∧ ck_Hx s.1 s.2.1 s.2.2 ∧ i < s.1.length ∧ ∀ j, j < k → ck_mul (s.1.getD i 0) (gs.getD j 0) ∈ s.1) gs.length 0 (G, a2, a3) (by omega) ?_ ?_ ?_
  · exact ⟨hK, hx, hi, fun j hj => absurd hj (by omega)⟩
  · intro n ⟨G', b2, b3⟩ ⟨k1, k2, k3, k4⟩
    have hlen := ck_720 k1.1 k1.2.1
    dsimp only at k1 k2 k3 k4 hlen
    refine pk_le gs.length gs.length (fun _ => nm_r (nI_1 i) (H G' b2 b3 k3 ⟨k1.1, k1.2.1, k1.2.2.1, k1.2.2.2.1, fun j hj k hk => ?_⟩ k2)) (fun z => absurd z (by omega))
    by_cases e : j = i
    · rw [e]
      obtain ⟨q, hq, eq⟩ := ck_mem_getD hk
      rw [← eq]
      exact k4 q hq
    · exact k1.2.2.2.2 j (by omega) k hk
  · intro n k ⟨G', b2, b3⟩ hk ⟨k1, k2, k3, k4⟩ hw
    have hlen := ck_720 k1.1 k1.2.1
    dsimp only at k1 k2 k3 k4 hlen
    have hgi := k1.2.1 _ (ck_getD_mem k3)
    have hgk := hgs _ (ck_getD_mem hk)
    have hb2 : b2 i = nI (G'.getD i 0) := by
      obtain ⟨T, t1, _⟩ := k2
      exact t1 i k3
    have hm := ck_mul_P hgi hgk
    have hmw : ck_W gs (ck_mul (G'.getD i 0) (gs.getD k 0)) := ck_W_mul (k1.2.2.2.1 _ (ck_getD_mem k3)) (ck_getD_mem hk)
    refine pk_le gs.length k (fun z => absurd z (by omega)) (fun _ => ⟨pk_in i 720 (by omega), pk_in k 3 (by omega), ?_⟩)
    dsimp only
    rw [nI_clamp (show i < 2 ^ 31 by omega), nI_clamp (show k < 2 ^ 31 by omega), hb2, ha1 k hk]
    refine ck_both hgi hgk.1 (ck_enter k1.1 k1.2.1 hm k2 ?_)
    intro G'' c2 c3 hG'' hx''
    refine nm_r (nI_1 k) (hw (G'', c2, c3) ?_)
    rcases hG'' with ⟨e, hmem⟩ | ⟨e, hmem⟩
    · subst e
      refine ⟨k1, hx'', k3, fun j hj => ?_⟩
      by_cases ej : j = k
      · rw [ej]
        exact hmem
      · exact k4 j (by omega)
    · subst e
      refine ⟨ck_K_add k1 (by omega) hmem hm hmw, hx'', by rw [ck_app_len]; omega, fun j hj => ?_⟩
      rw [ck_app_lo k3]
      by_cases ej : j = k
      · rw [ej]
        exact ck_mem_app.mpr (Or.inr rfl)
      · exact ck_mem_app.mpr (Or.inl (k4 j (by omega)))
theorem ck_l43 {post : St1 → Prop} {gs G : List Nat} (hl : gs.length ≤ 3) (hgs : ∀ g, g ∈ gs → ck_P g) (ha1 : ∀ k, k < gs.length → a1 k = nI (gs.getD k 0)) (hK : ck_K gs 0 G) (hx : ck_Hx G a2 a3)
    (H : ∀ G' shs' a2' a3' a4' a5', ck_Ld gs G' (nI G'.length) shs' a2' a4' a5' → post (nI gs.length, cc, 1, nI G'.length, shs', a1, a2', a3', a4', a5', a6)) :
    ∃ fu, wX_listGroup_43 post fu 0 (nI gs.length) cc li (nI G.length) shs a1 a2 a3 a4 a5 a6 := by
  refine lp4 (fun n (i : Nat) (G : List Nat) (b2 b3 : Nat → Int32) => wX_listGroup_43 post n (nI i) (nI gs.length) cc li (nI G.length) shs a1 b2 b3 a4 a5 a6)
    (fun i G b2 b3 => i ≤ G.length ∧ ck_K gs i G ∧ ck_Hx G b2 b3) (fun i _ _ _ => 720 - i) ?_ 0 G a2 a3 ⟨by omega, hK, hx⟩
  intro n i G b2 b3 ⟨hi, hK, hx⟩ hw
  have hlen := ck_720 hK.1 hK.2.1
  refine pk_le G.length i (fun z => ?_) (fun z => pk_le 720 i (fun z2 => absurd z2 (by omega)) (fun _ => ?_))
  · have hb2 : ∀ k, k < G.length → b2 k = nI (G.getD k 0) := by
      obtain ⟨T, t1, _⟩ := hx
      exact t1
    refine ck_l109 hlen hK.2.1 hb2 (fun shs' a4' a5' h => H G shs' b2 b3 a4' a5' ⟨⟨hK.1, hK.2.1, hK.2.2.1, fun g hg k hk => ?_, hK.2.2.2.1⟩, rfl, hb2, h⟩)
    obtain ⟨j, hj, e⟩ := ck_mem_getD hg
    rw [← e]
    exact hK.2.2.2.2 j (by omega) k hk
  · exact ck_l60 hl hgs ha1 hK z hx (fun G' a2' a3' h1 h2 h3 => hw (i + 1) G' a2' a3' ⟨h1, h2, h3⟩ (by omega))
theorem ck_l10 {post : St1 → Prop} {gs : List Nat} (hl : gs.length ≤ 3) (hgs : ∀ g, g ∈ gs → ck_P g) (ha1 : ∀ k, k < gs.length → a1 k = nI (gs.getD k 0))
    (H : ∀ G' shs' a2' a3' a4' a5', ck_Ld gs G' (nI G'.length) shs' a2' a4' a5' → post (nI gs.length, cc, 1, nI G'.length, shs', a1, a2', a3', a4', a5', a6)) :
    ∃ fu, wX_listGroup_10 post (nI gs.length) cc li sz shs fu 0 a1 a2 a3 a4 a5 a6 := by
  refine pk_loop (σ := Nat → Int32) (fun n k s => wX_listGroup_10 post (nI gs.length) cc li sz shs n (nI k) a1 a2 s a4 a5 a6) (fun k s => ∀ j, j < k → s j = -1) 2048 0 a3 (by omega) (fun j hj => absurd hj (by omega)) ?_ ?_
  · intro n s hs
    refine pk_le 2048 2048 (fun _ => ?_) (fun z => absurd z (by omega))
    refine ck_enter (G := []) (g := ck_id) (by simp) (fun x hx => absurd hx (by simp)) ck_id_P ⟨fun _ => 0, fun k hk => absurd hk (by simp), fun a ha => hs a ha, fun a _ => Nat.zero_le _, fun a _ b _ _ t => absurd rfl t, fun k hk => absurd hk (by simp)⟩ ?_
    intro G' b2 b3 hG' hx'
    rcases hG' with ⟨_, hmem⟩ | ⟨e, hmem⟩
    · exact absurd hmem (by simp)
    · refine ck_l43 hl hgs ha1 ?_ hx' H
      rw [e]
      refine ⟨by simp, fun g hg => ?_, by simp, fun g hg => ?_, fun j hj => absurd hj (by omega)⟩
      · have : g = ck_id := by simpa using hg
        rw [this]
        exact ck_id_P
      · have : g = ck_id := by simpa using hg
        rw [this]
        exact ck_W_id gs
  · intro n k s hk hs hw
    refine pk_le 2048 k (fun z => absurd z (by omega)) (fun _ => ⟨pk_in k 2048 hk, nm_e (nm_r (nI_1 k) (hw _ (fun j hj => ?_)))⟩)
    rw [nI_clamp (show k < 2 ^ 31 by omega)]
    by_cases e : j = k
    · rw [e, pk_us]
    · rw [pk_un e]
      exact hs j (by omega)
end
theorem ck_list {post : St1 → Prop} {gs : List Nat} {c : Nat} {u : St1} (h : ck_Sx gs c u) (H : ∀ G v, ck_Li gs c G v → post v) : wpX_listGroup post u := by
  obtain ⟨cnt, cc, li, sz, shs, a1, a2, a3, a4, a5, a6⟩ := u
  obtain ⟨⟨h1, h2, h3, h4, h5, h6⟩, h7⟩ := h
  subst h4
  by_cases e : li = 0
  · refine br_t e (ck_l10 h1 h2 h6 (fun G' shs' a2' a3' a4' a5' hL => H G' _ ⟨⟨h1, h2, h3, rfl, h5, h6⟩, by decide, hL⟩))
  · refine br_f e ?_
    rcases h7 with h7 | ⟨G, h7⟩
    · exact absurd h7 e
    · exact H G _ ⟨⟨h1, h2, h3, rfl, h5, h6⟩, e, h7⟩
theorem ck_listed {post : St1 → Prop} {gs : List Nat} {c : Nat} {G : List Nat} {u : St1} (h : ck_Li gs c G u) (H : post u) : wpX_listGroup post u := by
  obtain ⟨cnt, cc, li, sz, shs, a1, a2, a3, a4, a5, a6⟩ := u
  exact br_f h.2.1 H
theorem ck_Li_Sx {gs : List Nat} {c : Nat} {G : List Nat} {u : St1} (h : ck_Li gs c G u) : ck_Sx gs c u := by
  obtain ⟨cnt, cc, li, sz, shs, a1, a2, a3, a4, a5, a6⟩ := u
  exact ⟨h.1, Or.inr ⟨G, h.2.2⟩⟩
end
section
/-! part 11: takeCycle, leftWith, kindsWith -/
theorem ck_tv_m1 (n : Nat) : nI n + (-1) = ck_tv n := by
  cases n with
  | zero => decide
  | succ n => rw [pk_m1, ck_tv_s]
theorem ck_ix (m n : Nat) : 7 * nI m + nI n = nI (7 * m + n) := by
  show nI 7 * nI m + nI n = _
  rw [pk_mul, nI_add]
section
variable {cnt cc li sz shs : Int32} {a1 a2 a3 a4 a5 a6 : Nat → Int32}
theorem ck_tc93 {post : St1 → Prop} {J3 J10 : Int32 → (Nat → Int32) → (Nat → Int32) → (Nat → Int32) → (Nat → Int32) → (Nat → Int32) → (Nat → Int32) → Prop} {x1 x4 : Int32} {m n : Nat} (hm : m < 7) (hn : n < 7)
    (H : J10 (ck_tv n) a1 a2 a3 a4 a5 (upd a6 (7 * m + n) x4)) : wX_takeCycle_93 post J3 J10 x1 (nI m) (nI n) x4 cnt cc li sz shs a1 a2 a3 a4 a5 a6 := by
  unfold wX_takeCycle_93
  rw [ck_ix, nI_clamp (show 7 * m + n < 2 ^ 31 by omega)]
  exact ⟨pk_in (7 * m + n) 49 (by omega), nm_e (nm_r (ck_tv_m1 n) H)⟩
theorem ck_tc62 {post : St1 → Prop} {J3 J10 : Int32 → (Nat → Int32) → (Nat → Int32) → (Nat → Int32) → (Nat → Int32) → (Nat → Int32) → (Nat → Int32) → Prop} {w : Nat → Nat} {c l m n v : Nat} (hc : ck_ok c) (hl : 1 ≤ l) (hl6 : l ≤ 6) (hm : m < 7) (hn : n < 7)
    (hw : ∀ j, j ≤ 7 * m + n → a6 j = nI (w j)) (H : J10 (ck_tv n) a1 a2 a3 a4 a5 (upd a6 (7 * m + n) (nI (v + if 1 < c ∧ l ≤ n then w (7 * m + n - l) else 0)))) :
    wX_takeCycle_62 post J3 J10 (nI l) (nI m) (nI n) (nI v) cnt (nI c) li sz shs a1 a2 a3 a4 a5 a6 := by
  have hc3 : c < 4 := by rcases hc with e | e | e <;> omega
  refine pk_le c 1 (fun z => ?_) (fun z => pk_lt n l (fun z2 => ?_) (fun z2 => ?_))
  · rw [if_neg (by omega)] at H
    exact ck_tc93 hm hn H
  · rw [if_neg (by omega)] at H
    exact ck_tc93 hm hn H
  · rw [if_pos ⟨z, z2⟩] at H
    rw [ck_ix, pk_sub (by omega), nI_clamp (show 7 * m + n - l < 2 ^ 31 by omega), hw _ (by omega)]
    exact ⟨pk_in (7 * m + n - l) 49 (by omega), nm_r (nI_add _ _) (ck_tc93 hm hn H)⟩
theorem ck_tc37 {post : St1 → Prop} {J3 J10 : Int32 → (Nat → Int32) → (Nat → Int32) → (Nat → Int32) → (Nat → Int32) → (Nat → Int32) → (Nat → Int32) → Prop} {w : Nat → Nat} {c l m n v : Nat} (hc : ck_ok c) (hl : 1 ≤ l) (hl6 : l ≤ 6) (hm : m < 7) (hn : n < 7)
    (hw : ∀ j, j ≤ 7 * m + n → a6 j = nI (w j)) (H : J10 (ck_tv n) a1 a2 a3 a4 a5 (upd a6 (7 * m + n) (nI (v + (if l ≤ m then w (7 * m + n - 7 * l) else 0) + if 1 < c ∧ l ≤ n then w (7 * m + n - l) else 0)))) :
    wX_takeCycle_37 post J3 J10 (nI l) (nI m) (nI n) (nI v) cnt (nI c) li sz shs a1 a2 a3 a4 a5 a6 := by
  refine pk_lt m l (fun z => ?_) (fun z => ?_)
  · rw [if_neg (by omega)] at H
    exact ck_tc62 hc hl hl6 hm hn hw H
  · rw [if_pos z] at H
    rw [pk_sub z, ck_ix, nI_clamp (show 7 * (m - l) + n < 2 ^ 31 by omega), hw _ (by omega), show 7 * (m - l) + n = 7 * m + n - 7 * l by omega]
    exact ⟨pk_in (7 * m + n - 7 * l) 49 (by omega), nm_r (nI_add _ _) (ck_tc62 hc hl hl6 hm hn hw H)⟩
theorem ck_tc10 {post : St1 → Prop} {J3 : Int32 → (Nat → Int32) → (Nat → Int32) → (Nat → Int32) → (Nat → Int32) → (Nat → Int32) → (Nat → Int32) → Prop} {w : Nat → Nat} {c l m : Nat} (hc : ck_ok c) (hl : 1 ≤ l) (hl6 : l ≤ 6) (hm : m < 7)
    (hw : ∀ j, j < 49 → a6 j = nI (if 7 * (m + 1) ≤ j then ck_T c l w j else w j))
    (H : ∀ a6', (∀ j, j < 49 → a6' j = nI (if 7 * m ≤ j then ck_T c l w j else w j)) → J3 (ck_tv m) a1 a2 a3 a4 a5 a6') :
    ∃ fu, wX_takeCycle_10 post J3 (nI l) (nI m) cnt (nI c) li sz shs fu 6 a1 a2 a3 a4 a5 a6 := by
  have hc3 : c < 4 := by rcases hc with e | e | e <;> omega
  have e7 : ck_tv 7 = 6 := rfl
  rw [← e7]
  refine ⟨8, pk_loopD (fun f q s => wX_takeCycle_10 post J3 (nI l) (nI m) cnt (nI c) li sz shs f (ck_tv q) a1 a2 a3 a4 a5 s) (fun q s => q ≤ 7 ∧ ∀ j, j < 49 → s j = nI (if 7 * m + q ≤ j then ck_T c l w j else w j)) ?_ ?_ 7 a6 ⟨by omega, hw⟩⟩
  · intro f s ⟨_, hs⟩
    exact br_t ck_tv_0 (nm_r (ck_tv_m1 m) (H s hs))
  · intro f q s ⟨hq, hs⟩ hr
    rw [ck_tv_s]
    refine br_f (nI_pos (by omega)) ?_
    have hlow : ∀ j, j ≤ 7 * m + q → s j = nI (w j) := by
      intro j hj
      rw [hs j (by omega), if_neg (by omega)]
    have d1 : (7 * m + q) / 7 = m := by omega
    have d2 : (7 * m + q) % 7 = q := by omega
    have fin : wX_takeCycle_10 post J3 (nI l) (nI m) cnt (nI c) li sz shs f (ck_tv q) a1 a2 a3 a4 a5 (upd s (7 * m + q) (nI (ck_T c l w (7 * m + q)))) := by
      refine hr _ ⟨by omega, fun j hj => ?_⟩
      by_cases e : j = 7 * m + q
      · rw [e, pk_us, if_pos (Nat.le_refl _)]
      · rw [pk_un e, hs j hj]
        by_cases e2 : 7 * m + (q + 1) ≤ j
        · rw [if_pos e2, if_pos (by omega)]
        · rw [if_neg e2, if_neg (by omega)]
    unfold ck_T at fin
    rw [d1, d2] at fin
    refine pk_eq c 3 (fun z => ?_) (fun z => ?_)
    · rw [if_pos z] at fin
      rw [ck_ix, nI_clamp (show 7 * m + q < 2 ^ 31 by omega), hlow _ (Nat.le_refl _)]
      exact ⟨pk_in (7 * m + q) 49 (by omega), ck_tc37 hc hl hl6 hm (by omega) hlow fin⟩
    · rw [if_neg z] at fin
      exact ck_tc37 (v := 0) hc hl hl6 hm (by omega) hlow fin
theorem ck_takeCycle {post : St1 → Prop} {w : Nat → Nat} {c l : Nat} (hc : ck_ok c) (hl : 1 ≤ l) (hl6 : l ≤ 6) (hw : ∀ j, j < 49 → a6 j = nI (w j))
    (H : ∀ a6', (∀ j, j < 49 → a6' j = nI (ck_T c l w j)) → post (cnt, nI c, li, sz, shs, a1, a2, a3, a4, a5, a6')) : wpX_takeCycle post (cnt, nI c, li, sz, shs, a1, a2, a3, a4, a5, a6) (nI l) := by
  have e7 : ck_tv 7 = 6 := rfl
  unfold wpX_takeCycle
  dsimp only
  rw [← e7]
  refine ⟨8, pk_loopD (fun f p s => wX_takeCycle_3 post (nI l) cnt (nI c) li sz shs f (ck_tv p) a1 a2 a3 a4 a5 s) (fun p s => p ≤ 7 ∧ ∀ j, j < 49 → s j = nI (if 7 * p ≤ j then ck_T c l w j else w j)) ?_ ?_ 7 a6 ⟨by omega, fun j hj => by rw [if_neg (by omega)]; exact hw j hj⟩⟩
  · intro f s ⟨_, hs⟩
    refine br_t ck_tv_0 (H s (fun j hj => ?_))
    rw [hs j hj, if_pos (by omega)]
  · intro f p s ⟨hp, hs⟩ hr
    rw [ck_tv_s]
    exact br_f (nI_pos (by omega)) (ck_tc10 hc hl hl6 (by omega) hs (fun s' hs' => hr s' ⟨by omega, hs'⟩))
theorem ck_l55 {post : Int32 → St1 → Prop} {J : Int32 → Int32 → Int32 → Int32 → Int32 → Int32 → (Nat → Int32) → (Nat → Int32) → (Nat → Int32) → (Nat → Int32) → (Nat → Int32) → (Nat → Int32) → Prop} {w : Nat → Nat} {x1 x2 x3 : Int32} {c l q : Nat}
    (hc : ck_ok c) (hl6 : l < 6) (hq : q < 16) (hw : ∀ j, j < 49 → a6 j = nI (w j)) (H : ∀ a6', (∀ j, j < 49 → a6' j = nI (ck_TT c (l + 1) w q j)) → J (nI (l + 2)) cnt (nI c) li sz shs a1 a2 a3 a4 a5 a6') :
    ∃ fu, wX_leftWith_55 post J x1 x2 x3 (nI (l + 1)) (nI q) fu 0 cnt (nI c) li sz shs a1 a2 a3 a4 a5 a6 := by
  refine pk_loop (σ := Nat → Int32) (fun f k s => wX_leftWith_55 post J x1 x2 x3 (nI (l + 1)) (nI q) f (nI k) cnt (nI c) li sz shs a1 a2 a3 a4 a5 s) (fun k s => ∀ j, j < 49 → s j = nI (ck_TT c (l + 1) w k j)) q 0 a6 (by omega) hw ?_ ?_
  · intro f s hs
    exact pk_le q q (fun _ => nm_r (nI_1 (l + 1)) (H s hs)) (fun z => absurd z (by omega))
  · intro f k s hk hs hr
    refine pk_le q k (fun z => absurd z (by omega)) (fun _ => ck_takeCycle hc (by omega) (by omega) hs ?_)
    intro s' hs'
    exact nm_r (nI_1 k) (hr s' hs')
theorem ck_leftWith {post : Int32 → St1 → Prop} {c s m n : Nat} (hc : ck_ok c) (hs : s < 2 ^ 31) (hm : m + n < 7) (H : ∀ a6', post (nI (ck_LL c s 6 (7 * m + n))) (cnt, nI c, li, sz, shs, a1, a2, a3, a4, a5, a6')) :
    wpX_leftWith post (cnt, nI c, li, sz, shs, a1, a2, a3, a4, a5, a6) (nI s) (nI m) (nI n) := by
  refine pk_loop (σ := Nat → Int32) (fun f k w => wX_leftWith_3 post (nI s) (nI m) (nI n) cnt (nI c) li sz shs f (nI k) a1 a2 a3 a4 a5 w) (fun k w => ∀ j, j < k → w j = nI (if j = 0 then 1 else 0)) 49 0 a6 (by omega) (fun j hj => absurd hj (by omega)) ?_ ?_
  · intro f w hw
    refine pk_le 49 49 (fun _ => ?_) (fun z => absurd z (by omega))
    refine pk_loop (σ := Nat → Int32) (fun f l w => wX_leftWith_36 post (nI s) (nI m) (nI n) f (nI (l + 1)) cnt (nI c) li sz shs a1 a2 a3 a4 a5 w) (fun l w => ∀ j, j < 49 → w j = nI (ck_LL c s l j)) 6 0 w (by omega) hw ?_ ?_
    · intro f w hw
      refine pk_lt 6 7 (fun _ => ?_) (fun z => absurd z (by omega))
      rw [ck_ix, nI_clamp (show 7 * m + n < 2 ^ 31 by omega), hw _ (by omega)]
      exact ⟨pk_in (7 * m + n) 49 (by omega), H w⟩
    · intro f l w hl hw hr
      refine pk_lt 6 (l + 1) (fun z => absurd z (by omega)) (fun _ => ck_cyclesOf hs hl ?_)
      exact ck_l55 hc hl (Nat.mod_lt _ (by decide)) hw (fun a6' h => hr a6' h)
  · intro f k w hk hw hr
    refine pk_le 49 k (fun z => absurd z (by omega)) (fun _ => pk_eq k 0 (fun z => ?_) (fun z => ?_))
    · refine ⟨pk_in k 49 hk, nm_e (nm_r (nI_1 k) (hr _ (fun j hj => ?_)))⟩
      rw [nI_clamp (show k < 2 ^ 31 by omega)]
      have : j = k := by omega
      rw [this, pk_us, if_pos z]
      rfl
    · refine ⟨pk_in k 49 hk, nm_e (nm_r (nI_1 k) (hr _ (fun j hj => ?_)))⟩
      rw [nI_clamp (show k < 2 ^ 31 by omega)]
      by_cases e : j = k
      · rw [e, pk_us, if_neg z]
        rfl
      · rw [pk_un e]
        exact hw j (by omega)
theorem ck_k39 {post : Int32 → St1 → Prop} {S : List Nat} {N : Nat → Nat} {c m n z q : Nat} (hc : ck_ok c) (hm : m + n < 7) (h : ck_Hs S N shs a4 a5) (hz : 0 < z) (hz2 : z ≤ 720) (hq : q ≤ 729) (hs : ck_hs S N (fun s => ck_LL c s 6 (7 * m + n)) = z * q)
    (H : ∀ a6', post (nI q) (cnt, nI c, li, nI z, shs, a1, a2, a3, a4, a5, a6')) : ∃ fu, wX_kindsWith_39 post (nI m) (nI n) fu 0 0 cnt (nI c) li (nI z) shs a1 a2 a3 a4 a5 a6 := by
  obtain ⟨h1, h2, h3, h4⟩ := h
  have h11 := ck_sh_11 h1 h2
  subst h3
  refine pk_loop (σ := Nat → Int32) (fun f k s => wX_kindsWith_39 post (nI m) (nI n) f (nI (ck_su (fun j => N j * ck_LL c (S.getD j 0) 6 (7 * m + n)) k)) (nI k) cnt (nI c) li (nI z) (nI S.length) a1 a2 a3 a4 a5 s) (fun _ _ => True) S.length 0 a6 (by omega) trivial ?_ ?_
  · intro f s _
    refine pk_le S.length S.length (fun _ => br_f (nI_nle hz (by omega)) ⟨nI_ne0 hz (by omega), ?_⟩) (fun z => absurd z (by omega))
    have hs' : ck_su (fun j => N j * ck_LL c (S.getD j 0) 6 (7 * m + n)) S.length = z * q := hs
    have hb : z * q ≤ 720 * 729 := Nat.mul_le_mul hz2 hq
    rw [hs', pk_div (by omega) hz (by omega), Nat.mul_div_cancel_left _ hz]
    exact H s
  · intro f k s hk _ hr
    have hkS := ck_sh_lt _ (h2 _ (ck_getD_mem hk))
    refine pk_le S.length k (fun z => absurd z (by omega)) (fun _ => ⟨pk_in k 12 (by omega), ?_⟩)
    rw [nI_clamp (show k < 2 ^ 31 by omega), (h4 k hk).1]
    refine ck_leftWith hc hkS hm (fun s' => ⟨pk_in k 12 (by omega), nm_r (e' := nI (ck_su (fun j => N j * ck_LL c (S.getD j 0) 6 (7 * m + n)) (k + 1))) ?_ (nm_r (nI_1 k) (hr s' trivial))⟩)
    rw [(h4 k hk).2, pk_mul, nI_add]
    rfl
end
end
section
/-! part 12: the public methods -/
section
variable {cnt cc li sz shs : Int32} {a1 a2 a3 a4 a5 a6 : Nat → Int32}
theorem ck_Li_e {gs : List Nat} {c : Nat} {G : List Nat} (h : ck_Li gs c G (cnt, cc, li, sz, shs, a1, a2, a3, a4, a5, a6)) : ck_ok c ∧ ck_Gr G ∧ 0 < G.length ∧ G.length ≤ 720 ∧ cc = nI c ∧ sz = nI G.length ∧ (∀ k, k < G.length → a2 k = nI (G.getD k 0)) ∧
    ∃ S N, ck_Hs S N shs a4 a5 ∧ ∀ f, ck_hs S N f = ck_ls (fun g => f (ck_sh g)) G := by
  obtain ⟨⟨h1, h2, h3, h4, h5, h6⟩, h7, h8, h9, h10, h11⟩ := h
  have hG := ck_G_Gr h2 h8
  exact ⟨h3, hG, ck_Gr_pos hG, ck_720 hG.1 hG.2.1, h5, h9, h10, h11⟩
end
theorem ck_kinds {post : Int32 → St1 → Prop} {gs : List Nat} {c : Nat} {u : St1} (h : ck_Sx gs c u) (H : ∀ G v, ck_Li gs c G v → post (nI (ck_R c G)) v) : wpX_kinds post u := by
  obtain ⟨cnt, cc, li, sz, shs, a1, a2, a3, a4, a5, a6⟩ := u
  refine ck_list h (fun G v hv => ?_)
  obtain ⟨cnt, cc, li, sz, shs, a1, a2, a3, a4, a5, a6⟩ := v
  obtain ⟨e1, e2, e3, e4, e5, e6, e7, S, N, e8, e9⟩ := ck_Li_e hv
  subst e5 e6
  refine ck_kindsOf (c := c) (n := G.length) (q := ck_R c G) e8 e3 e4 (Nat.le_trans (ck_R_le c G) (ck_c6 e1).1) ?_ (H G _ hv)
  rw [e9, ck_B1 e1 e2]
theorem ck_kindsWith {post : Int32 → St1 → Prop} {gs : List Nat} {c m n : Nat} {G : List Nat} {u : St1} (h : ck_Li gs c G u) (hm : m + n < 7) (H : ∀ v, ck_Li gs c G v → post (nI (ck_Rm c G m n)) v) : wpX_kindsWith post u (nI m) (nI n) := by
  obtain ⟨cnt, cc, li, sz, shs, a1, a2, a3, a4, a5, a6⟩ := u
  obtain ⟨e1, e2, e3, e4, e5, e6, e7, S, N, e8, e9⟩ := ck_Li_e h
  subst e5 e6
  refine br_f (nI_pos (by omega)) (br_f (nI_pos (by omega)) (pk_lt 6 m (fun z => absurd z (by omega)) (fun _ => pk_lt 6 n (fun z => absurd z (by omega)) (fun _ => ?_))))
  rw [nI_add]
  refine pk_le (m + n) 6 (fun _ => ck_listed h ?_) (fun z => absurd z (by omega))
  refine ck_k39 e1 hm e8 e3 e4 (Nat.le_trans (ck_Rm_le c G m n) (ck_c6 e1).1) ?_ (fun a6' => H _ h)
  rw [e9, ck_B2 e1 e2 hm]
theorem ck_order {post : Int32 → St1 → Prop} {gs : List Nat} {c : Nat} {G : List Nat} {u : St1} (h : ck_Li gs c G u) (H : post (nI G.length) u) : wpX_order post u := by
  obtain ⟨cnt, cc, li, sz, shs, a1, a2, a3, a4, a5, a6⟩ := u
  obtain ⟨e1, e2, e3, e4, e5, e6, e7, S, N, e8, e9⟩ := ck_Li_e h
  subst e6
  exact ck_listed h H
theorem ck_withCycles {post : Int32 → St1 → Prop} {gs : List Nat} {c q : Nat} {G : List Nat} {u : St1} (h : ck_Li gs c G u) (hq : q < 7) (H : post (nI (ck_ls (fun g => if ck_ac (ck_sh g) = q then 1 else 0) G)) u) : wpX_withCycles post u (nI q) := by
  obtain ⟨cnt, cc, li, sz, shs, a1, a2, a3, a4, a5, a6⟩ := u
  obtain ⟨e1, e2, e3, e4, e5, e6, e7, S, N, e8, e9⟩ := ck_Li_e h
  refine ck_listed h (ck_withC8 e8 hq ?_)
  rw [e9]
  exact H
theorem ck_orbits {post : Int32 → St1 → Prop} {gs : List Nat} {c : Nat} {G : List Nat} {u : St1} (h : ck_Li gs c G u) (H : post (nI (ck_O G)) u) : wpX_orbits post u := by
  obtain ⟨cnt, cc, li, sz, shs, a1, a2, a3, a4, a5, a6⟩ := u
  obtain ⟨e1, e2, e3, e4, e5, e6, e7, S, N, e8, e9⟩ := ck_Li_e h
  subst e6
  refine ck_listed h (ck_orbitCount (n := G.length) (q := ck_O G) e8 e3 e4 (by have := ck_O_le G; omega) ?_ H)
  rw [e9, ck_B4 e2]
theorem ck_still {post : Int32 → St1 → Prop} {gs : List Nat} {c : Nat} {G : List Nat} {u : St1} (h : ck_Li gs c G u) (H : post (nI (c ^ ck_O G)) u) : wpX_still post u := by
  obtain ⟨cnt, cc, li, sz, shs, a1, a2, a3, a4, a5, a6⟩ := u
  obtain ⟨e1, e2, e3, e4, e5, e6, e7, S, N, e8, e9⟩ := ck_Li_e h
  subst e5 e6
  refine ck_listed h (ck_orbitCount (n := G.length) (q := ck_O G) e8 e3 e4 (by have := ck_O_le G; omega) ?_ (ck_power (by have := ck_O_le G; omega) H))
  rw [e9, ck_B4 e2]
theorem ck_kindsWithAll {post : Int32 → St1 → Prop} {gs : List Nat} {G : List Nat} {u : St1} (h : ck_Li gs 2 G u) (H : post (nI (ck_R 2 G) - 2) u) : wpX_kindsWithAll post u := by
  obtain ⟨cnt, cc, li, sz, shs, a1, a2, a3, a4, a5, a6⟩ := u
  obtain ⟨e1, e2, e3, e4, e5, e6, e7, S, N, e8, e9⟩ := ck_Li_e h
  subst e5 e6
  refine ck_listed h (ck_kindsOf (c := 1) (n := G.length) (q := ck_R 1 G) e8 e3 e4 (Nat.le_trans (ck_R_le 1 G) (by decide)) ?_ (br_f (by decide) (ck_kindsOf (c := 2) (n := G.length) (q := ck_R 2 G) e8 e3 e4 (Nat.le_trans (ck_R_le 2 G) (by decide)) ?_ (br_t (by decide) ?_))))
  · rw [e9, ck_B1 (Or.inl rfl) e2]
  · rw [e9, ck_B1 (Or.inr (Or.inl rfl)) e2]
  · rw [ck_B9]
    exact H
theorem ck_size {post : Int32 → St1 → Prop} {gs : List Nat} {c x : Nat} {G : List Nat} {u : St1} (h : ck_Li gs c G u) (hx : x < c ^ 6) (H : post (nI (G.length / G.countP (fun g => ck_act c x g == x))) u) : wpX_size post u (nI x) := by
  obtain ⟨cnt, cc, li, sz, shs, a1, a2, a3, a4, a5, a6⟩ := u
  obtain ⟨e1, e2, e3, e4, e5, e6, e7, S, N, e8, e9⟩ := ck_Li_e h
  subst e5 e6
  unfold wpX_size
  refine ck_bad e1 hx ?_
  refine br_t rfl ?_
  exact ck_listed h (ck_size19 e1 e4 e2.2.1 e7 hx (ck_B11 e1 e2 hx).1 H)
theorem ck_name {post : Int32 → St1 → Prop} {gs : List Nat} {c x : Nat} {G : List Nat} {u : St1} (h : ck_Li gs c G u) (hx : x < c ^ 6) (H : ∀ m, ck_isN (ck_act c) G x m → post (nI m) u) : wpX_name post u (nI x) := by
  obtain ⟨cnt, cc, li, sz, shs, a1, a2, a3, a4, a5, a6⟩ := u
  obtain ⟨e1, e2, e3, e4, e5, e6, e7, S, N, e8, e9⟩ := ck_Li_e h
  subst e5 e6
  unfold wpX_name
  refine ck_bad e1 hx ?_
  refine br_t rfl ?_
  refine ck_listed h ?_
  exact ck_leastOf e1 e4 e2.2.1 e7 hx H
theorem ck_alike {post : Int32 → St1 → Prop} {gs : List Nat} {c x y : Nat} {G : List Nat} {u : St1} (h : ck_Li gs c G u) (hx : x < c ^ 6) (hy : y < c ^ 6) (hxy : ∀ a b, ck_isN (ck_act c) G x a → ck_isN (ck_act c) G y b → a = b) (H : post 1 u) :
    wpX_alike post u (nI x) (nI y) := by
  obtain ⟨cnt, cc, li, sz, shs, a1, a2, a3, a4, a5, a6⟩ := u
  obtain ⟨e1, e2, e3, e4, e5, e6, e7, S, N, e8, e9⟩ := ck_Li_e h
  subst e5 e6
  unfold wpX_alike
  refine ck_bad e1 hx ?_
  refine br_t rfl ?_
  refine ck_bad e1 hy ?_
  refine br_t rfl ?_
  refine ck_listed h ?_
  refine ck_leastOf e1 e4 e2.2.1 e7 hx (fun a ha => ?_)
  refine ck_leastOf e1 e4 e2.2.1 e7 hy (fun b hb => ?_)
  refine br_t ?_ H
  rw [hxy a b ha hb]
end
section
/-! part 13: code, inside, add, remove, colours, turn -/
def ck_in (left skip : Nat) : Nat → Int32 × Int32
  | 0 => (nI skip, -1)
  | t + 1 => match ck_in left skip t with
    | (s, o) => if left / 2 ^ t % 2 = 1 then (s - 1, if s = 0 then nI t else o) else (s, o)
def ck_pick (left : Nat) : Nat → Nat → Nat → Nat
  | 0, _, _ => 7
  | f + 1, t, skip => if left / 2 ^ t % 2 = 1 then (if skip = 0 then t else ck_pick left f (t + 1) (skip - 1)) else ck_pick left f (t + 1) skip
def ck_un (i : Nat) : Nat := if i = 0 then 120 else if i = 1 then 24 else if i = 2 then 6 else if i = 3 then 2 else 1
def ck_cs (r : Nat) : Nat → Nat × Nat × Nat
  | 0 => (r, 63, 0)
  | i + 1 => match ck_cs r i with
    | (rest, left, code) => (rest % ck_un i, left - 2 ^ ck_pick left 6 0 (rest / ck_un i), code + ck_pick left 6 0 (rest / ck_un i) * 6 ^ i)
def ck_dd (code i : Nat) : Nat := code / 6 ^ i % 6
def ck_sn (code : Nat) : Nat → Nat
  | 0 => 0
  | i + 1 => ck_sn code i ||| 2 ^ ck_dd code i
def ck_cd (r : Nat) : Nat := (ck_cs r 6).2.2
def ck_ci (r i : Nat) : Bool := match ck_cs r i with
  | (rest, left, _) => Nat.ble rest 719 && Nat.ble left 63 && Nat.ble (rest / ck_un i) 5 && Nat.ble (ck_pick left 6 0 (rest / ck_un i)) 5 && Nat.beq (left / 2 ^ ck_pick left 6 0 (rest / ck_un i) % 2) 1
def ck_chkc (r : Nat) : Bool := ck_all (ck_ci r) 6 && Nat.ble (ck_cd r) 46655 && ck_Pb (ck_enc (ck_dd (ck_cd r))) && Nat.beq (ck_sn (ck_cd r) 6) 63
theorem ck_chkc_t : ck_all ck_chkc 720 = true := by decide +kernel
theorem ck_in_t : ∀ left, left < 64 → ∀ skip, skip < 6 → ck_pick left 6 0 skip < 6 → (ck_in left skip 6).2 = nI (ck_pick left 6 0 skip) := by decide +kernel
theorem ck_clr : ∀ left, left < 64 → ∀ t, t < 6 → left / 2 ^ t % 2 = 1 → nI left &&& (((1 : Int32) <<< (nI t &&& 31)) ^^^ (-1)) = nI (left - 2 ^ t) := by decide +kernel
theorem ck_in_s (left skip t : Nat) : ck_in left skip (t + 1) = if left / 2 ^ t % 2 = 1 then ((ck_in left skip t).1 - 1, if (ck_in left skip t).1 = 0 then nI t else (ck_in left skip t).2) else ck_in left skip t := rfl
theorem ck_cs_s (r i : Nat) : ck_cs r (i + 1) = ((ck_cs r i).1 % ck_un i, (ck_cs r i).2.1 - 2 ^ ck_pick (ck_cs r i).2.1 6 0 ((ck_cs r i).1 / ck_un i), (ck_cs r i).2.2 + ck_pick (ck_cs r i).2.1 6 0 ((ck_cs r i).1 / ck_un i) * 6 ^ i) := rfl
theorem ck_un_b : ∀ i, i < 6 → 0 < ck_un i ∧ ck_un i ≤ 120 ∧ (i < 4 → ck_un i / (5 - i) = ck_un (i + 1)) ∧ (4 ≤ i → ck_un (i + 1) = 1) := by decide
theorem ck_c43 {post : Int32 → Prop} {J : Int32 → Int32 → Int32 → Int32 → Int32 → Int32 → Prop} {x1 x2 x4 x5 x6 : Int32} {left skip : Nat} (hl : left < 64)
    (H : ¬ x2 = 0 ∧ ∀ x1' : Int32, x1' = x1 - x1 / x2 * x2 → (4 ≤ x6 → wL_code_128 post J x1' (nI left) x4 x5 x6 (ck_in left skip 6).2 1) ∧ (¬ 4 ≤ x6 → (¬ (5 - x6) = 0 ∧ wL_code_128 post J x1' (nI left) x4 x5 x6 (ck_in left skip 6).2 (x2 / (5 - x6))))) :
    ∃ fu, wL_code_43 post J x1 x2 (nI left) x4 x5 x6 fu (nI skip) (-1) 0 := by
  refine pk_loop (σ := Unit) (fun n t _ => wL_code_43 post J x1 x2 (nI left) x4 x5 x6 n (ck_in left skip t).1 (ck_in left skip t).2 (nI t)) (fun _ _ => True) 6 0 () (by omega) trivial ?_ ?_
  · intro n _ _
    exact pk_le 6 6 (fun _ => H) (fun z => absurd z (by omega))
  · intro n t _ ht _ hw
    have st := hw () trivial
    rw [ck_in_s] at st
    refine pk_le 6 t (fun z => absurd z (by omega)) (fun _ => ?_)
    rw [ck_bit left hl t ht]
    by_cases h : left / 2 ^ t % 2 = 1
    · rw [if_pos h] at st
      refine br_t (by rw [h]; rfl) (br_f (by decide) ?_)
      by_cases h2 : (ck_in left skip t).1 = 0
      · rw [if_pos h2] at st
        exact br_t h2 (br_f (by decide) (nm_e (nm_r (nI_1 t) st)))
      · rw [if_neg h2] at st
        exact br_f h2 (br_f (by decide) (nm_e (nm_r (nI_1 t) st)))
    · rw [if_neg h] at st
      have h0 : left / 2 ^ t % 2 = 0 := by omega
      refine br_f (by rw [h0]; decide) (br_t rfl (br_t rfl (nm_r (nI_1 t) st)))
theorem ck_code25 {post : Int32 → Prop} {r : Nat} (hr : r < 720) (H : post (nI (ck_cd r))) : ∃ fu, wL_code_25 post fu (nI r) 120 63 0 1 0 := by
  have hchk := ck_all_ok ck_chkc_t r hr
  unfold ck_chkc at hchk
  rw [Bool.and_eq_true, Bool.and_eq_true, Bool.and_eq_true] at hchk
  have hall := ck_all_ok hchk.1.1.1
  refine pk_loop (σ := Unit) (fun n i _ => wL_code_25 post n (nI (ck_cs r i).1) (nI (ck_un i)) (nI (ck_cs r i).2.1) (nI (ck_cs r i).2.2) (nI (6 ^ i)) (nI i)) (fun _ _ => True) 6 0 () (by omega) trivial ?_ ?_
  · intro n _ _
    exact pk_le 6 6 (fun _ => H) (fun z => absurd z (by omega))
  · intro n i _ hi _ hw
    have st := hw () trivial
    have hc : (Nat.ble (ck_cs r i).1 719 && Nat.ble (ck_cs r i).2.1 63 && Nat.ble ((ck_cs r i).1 / ck_un i) 5 && Nat.ble (ck_pick (ck_cs r i).2.1 6 0 ((ck_cs r i).1 / ck_un i)) 5 && Nat.beq ((ck_cs r i).2.1 / 2 ^ ck_pick (ck_cs r i).2.1 6 0 ((ck_cs r i).1 / ck_un i) % 2) 1) = true := hall i hi
    rw [Bool.and_eq_true, Bool.and_eq_true, Bool.and_eq_true, Bool.and_eq_true] at hc
    rw [ck_cs_s] at st
    generalize (ck_cs r i).1 = rest at hc st ⊢
    generalize (ck_cs r i).2.1 = left at hc st ⊢
    generalize (ck_cs r i).2.2 = code at st ⊢
    have h1 := Nat.le_of_ble_eq_true hc.1.1.1.1
    have h2 := Nat.le_of_ble_eq_true hc.1.1.1.2
    have h3 := Nat.le_of_ble_eq_true hc.1.1.2
    have h4 := Nat.le_of_ble_eq_true hc.1.2
    have h5 := ck_nbt.mp hc.2
    obtain ⟨u1, u2, u3, u4⟩ := ck_un_b i hi
    refine pk_le 6 i (fun z => absurd z (by omega)) (fun _ => ⟨nI_ne0 u1 (by omega), nm_r (pk_div (by omega) u1 (by omega)) (ck_c43 (by omega) ⟨nI_ne0 u1 (by omega), nm_r (pk_rem (by omega) u1 (by omega)) ?_⟩)⟩)
    rw [ck_in_t left (by omega) _ (by omega) (by omega)]
    have g1 : nI code + nI (ck_pick left 6 0 (rest / ck_un i)) * nI (6 ^ i) = nI (code + ck_pick left 6 0 (rest / ck_un i) * 6 ^ i) := by rw [pk_mul, nI_add]
    have g2 : 6 * nI (6 ^ i) = nI (6 ^ (i + 1)) := by
      show nI 6 * nI (6 ^ i) = _
      rw [pk_mul, Nat.pow_succ, Nat.mul_comm]
    have g3 := ck_clr left (by omega) _ (by omega) h5
    refine pk_le 4 i (fun z => ?_) (fun z => ?_)
    · rw [u4 z] at st
      exact nm_r g1 (nm_r g2 (nm_r g3 (nm_r (nI_1 i) st)))
    · have g4 : (5 : Int32) - nI i = nI (5 - i) := pk_sub (a := 5) (by omega)
      rw [g4]
      refine ⟨nI_ne0 (by omega) (by omega), ?_⟩
      rw [pk_div (by omega) (by omega) (by omega), u3 z]
      exact nm_r g1 (nm_r g2 (nm_r g3 (nm_r (nI_1 i) st)))
theorem ck_code {post : Int32 → Prop} {u : St2} {x : Int32} (H : ∀ r, r < 720 → post (nI (ck_cd r))) : wpL_code post u x := by
  obtain ⟨j, hj, e⟩ := pk_andE x (m := 1023) 10 (by decide)
  refine ⟨by decide, ?_⟩
  rw [e]
  refine nm_r (e' := nI (j % 720)) (pk_rem (d := 720) (by omega) (by omega) (by omega)) ?_
  have hr : j % 720 < 720 := Nat.mod_lt _ (by omega)
  exact ck_code25 hr (H _ hr)
section
variable {cnt cc li sz shs : Int32} {a1 a2 a3 a4 a5 a6 : Nat → Int32}
theorem ck_sn_b {code : Nat} (i : Nat) : ck_sn code i < 64 := by
  induction i with
  | zero => exact (by decide : (0 : Nat) < 64)
  | succ i ih => exact (ck_bor _ ih _ (Nat.mod_lt _ (by decide))).2
theorem ck_inside {post : Int32 → Prop} {code : Nat} (hc : code < 46656) (hs : ck_sn code 6 = 63) (H : post (nI (ck_enc (ck_dd code)))) : wpX_inside post (cnt, cc, li, sz, shs, a1, a2, a3, a4, a5, a6) (nI code) := by
  refine pk_loop (σ := Nat) (fun n i s => wX_inside_10 post cnt cc li sz shs a1 a2 a3 a4 a5 a6 n (nI (ck_su (fun i => ck_dd code i * 8 ^ i) i)) (nI (ck_sn code i)) (nI s) (nI i)) (fun i s => s = code / 6 ^ i) 6 0 code (by omega) (by simp) ?_ ?_
  · intro n s h
    have h0 : s = 0 := by
      rw [h]
      exact Nat.div_eq_of_lt hc
    refine pk_le 6 6 (fun _ => ?_) (fun z => absurd z (by omega))
    rw [hs, h0]
    exact br_t rfl (br_t rfl H)
  · intro n i s hi h hw
    have hsl : s ≤ code := by
      rw [h]
      exact Nat.div_le_self _ _
    have hd : ck_dd code i < 6 := Nat.mod_lt _ (by decide)
    have g0 : nI s - nI s / 6 * 6 = nI (ck_dd code i) := by
      have := pk_rem (a := s) (d := 6) (by omega) (by omega) (by omega)
      rw [h] at this ⊢
      exact this
    have g1 : nI s / 6 = nI (s / 6) := pk_div (d := 6) (by omega) (by omega) (by omega)
    refine pk_le 6 i (fun z => absurd z (by omega)) (fun _ => ⟨by decide, nm_r g0 ⟨by decide, nm_r g1 (nm_r (ck_bor _ (ck_sn_b i) _ hd).1 (nm_r (ck_orw (ck_su8 (f := ck_dd code) (fun i => Nat.lt_trans (Nat.mod_lt _ (by decide)) (by decide : 6 < 8)) i) (by omega) hi) (nm_r (nI_1 i) (hw _ ?_))))⟩⟩)
    rw [h, Nat.div_div_eq_div_mul, Nat.pow_succ]
theorem ck_outside {post : Int32 → Prop} {x : Int32} (H : ∀ r, post r) : wpX_outside post (cnt, cc, li, sz, shs, a1, a2, a3, a4, a5, a6) x := by
  refine ⟨7, ?_⟩
  exact pk_loopD (σ := Int32) (fun f q s => wX_outside_4 post x cnt cc li sz shs a1 a2 a3 a4 a5 a6 f s (ck_tv q)) (fun q _ => q ≤ 6) (fun f s _ => br_t ck_tv_0 (H s))
    (fun f q s hq hr => by
      rw [ck_tv_s]
      refine br_f (nI_pos (by omega)) ?_
      refine nm_e (nm_r (ck_tv_m1 q) (hr _ (by omega)))) 6 0 (by omega)
end
theorem ck_remove {post : Int32 → St1 → Prop} {gs : List Nat} {c : Nat} {u : St1} (h : ck_Sx gs c u) (H : ∀ r gs' v, ck_Sx gs' c v → post r v) : wpX_remove post u := by
  obtain ⟨cnt, cc, li, sz, shs, a1, a2, a3, a4, a5, a6⟩ := u
  have h' := h
  obtain ⟨⟨h1, h2, h3, h4, h5, h6⟩, h7⟩ := h
  by_cases e : gs.length = 0
  · exact br_t (by rw [h4, e]; rfl) (H _ gs _ h')
  · obtain ⟨k, hk⟩ : ∃ k, gs.length = k + 1 := ⟨gs.length - 1, by omega⟩
    rw [hk] at h4
    subst h4
    refine br_f (nI_ne0 (by omega) (by omega)) (nm_r (nI_pred k) ⟨pk_in k 3 (by omega), ck_outside (fun r => H r (gs.take k) _ ⟨⟨?_, ?_, h3, ?_, h5, ?_⟩, Or.inl rfl⟩)⟩)
    · rw [List.length_take]
      omega
    · exact fun g hg => h2 g (List.mem_of_mem_take hg)
    · rw [List.length_take, show min k gs.length = k by omega]
    · intro j hj
      rw [List.length_take] at hj
      rw [h6 j (by omega), List.getD_eq_getElem?_getD, List.getD_eq_getElem?_getD, List.getElem?_take_of_lt (by omega)]
theorem ck_colours {post : Int32 → St1 → Prop} {gs : List Nat} {c d : Nat} {u : St1} (h : ck_Sx gs c u) (hd : ck_ok d) (H : ∀ r v, ck_Sx gs d v → post r v) : wpX_colours post u (nI d) := by
  obtain ⟨cnt, cc, li, sz, shs, a1, a2, a3, a4, a5, a6⟩ := u
  obtain ⟨⟨h1, h2, h3, h4, h5, h6⟩, h7⟩ := h
  have hd1 := ck_ok_pos hd
  have hd3 : d ≤ 3 := by rcases hd with e | e | e <;> omega
  exact pk_lt d 1 (fun z => absurd z (by omega)) (fun _ => pk_le d 3 (fun _ => H _ _ ⟨⟨h1, h2, hd, h4, rfl, h6⟩, h7⟩) (fun z => absurd z (by omega)))
theorem ck_add {post : Int32 → St1 → Prop} {gs : List Nat} {c r : Nat} {u : St1} (h : ck_Sx gs c u) (hr : r < 720) (H : ∀ x gs' v, (∀ k, k ∈ gs → k ∈ gs') → ck_Sx gs' c v → (0 ≤ x ∨ x = -2) → post x v) : wpX_add post u (nI (ck_cd r)) := by
  obtain ⟨cnt, cc, li, sz, shs, a1, a2, a3, a4, a5, a6⟩ := u
  have h' := h
  obtain ⟨⟨h1, h2, h3, h4, h5, h6⟩, h7⟩ := h
  have hchk := ck_all_ok ck_chkc_t r hr
  unfold ck_chkc at hchk
  rw [Bool.and_eq_true, Bool.and_eq_true, Bool.and_eq_true] at hchk
  have c1 := Nat.le_of_ble_eq_true hchk.1.1.2
  have c2 := ck_Pb_ok hchk.1.2
  have c3 := ck_nbt.mp hchk.2
  generalize ck_cd r = code at c1 c2 c3 ⊢
  unfold wpX_add
  refine br_t (nI_pos' (by omega)) ?_
  refine ck_inside (by omega) c3 ?_
  generalize ck_enc (ck_dd code) = g at c2 ⊢
  have hg := c2.1
  refine br_t (nI_pos' (by omega)) ?_
  subst h4
  refine pk_eq gs.length 3 (fun e => H _ gs _ (fun k hk => hk) h' (Or.inr rfl)) (fun e => ⟨pk_in gs.length 3 (by omega), nm_e (nm_r (nI_1 gs.length) ?_)⟩)
  rw [nI_clamp (show gs.length < 2 ^ 31 by omega)]
  refine H _ (gs ++ [g]) _ (fun k hk => ck_mem_app.mpr (Or.inl hk)) ⟨⟨?_, ?_, h3, ?_, h5, ?_⟩, Or.inl rfl⟩ (Or.inl (nI_pos' (by omega)))
  · rw [ck_app_len]
    omega
  · intro x hx
    rcases ck_mem_app.mp hx with t | t
    · exact h2 x t
    · rw [t]
      exact c2
  · rw [ck_app_len]
  · intro k hk
    rw [ck_app_len] at hk
    by_cases ek : k = gs.length
    · rw [ek, pk_us, ck_app_hi]
    · rw [pk_un ek, ck_app_lo (by omega)]
      exact h6 k (by omega)
theorem ck_cnew (x : Int32) : ∃ d, ck_ok d ∧ 1 + ((x &&& 3) - (x &&& 3) / 3 * 3) = nI d := by
  obtain ⟨j, hj, e⟩ := pk_andE x (m := 3) 2 (by decide)
  refine ⟨1 + j % 3, ?_, ?_⟩
  · unfold ck_ok
    omega
  · have e2 : nI j - nI j / 3 * 3 = nI (j % 3) := pk_rem (d := 3) (by omega) (by omega) (by omega)
    rw [e, e2]
    exact nI_add 1 (j % 3)
theorem ck_turn {post : Int32 → St1 → Prop} {gs : List Nat} {c o : Nat} {u : St1} {p1 p2 : Int32} (h : ck_Sx gs c u) (ho : o < 16) (e : p1 &&& 15 = nI o)
    (Ha : o < 8 → ∀ x gs' v, (∀ k, k ∈ gs → k ∈ gs') → ck_Sx gs' c v → (0 ≤ x ∨ x = -2) → post x v) (Hr : 8 ≤ o → o < 12 → ∀ r gs' v, ck_Sx gs' c v → post r v)
    (Hc : 12 ≤ o → ∀ r v d, ck_ok d → 1 + ((p2 &&& 3) - (p2 &&& 3) / 3 * 3) = nI d → ck_Sx gs d v → post r v) : wpL_turn post u p1 p2 := by
  obtain ⟨cnt, cc, li, sz, shs, a1, a2, a3, a4, a5, a6⟩ := u
  unfold wpL_turn
  refine nm_r e (pk_le 8 o (fun z => pk_le 12 o (fun z2 => ⟨by decide, ?_⟩) (fun z2 => ?_)) (fun z => ?_))
  · obtain ⟨d, hd, ed⟩ := ck_cnew p2
    rw [ed]
    refine ck_colours h hd (fun r v hv => ?_)
    obtain ⟨cnt, cc, li, sz, shs, a1, a2, a3, a4, a5, a6⟩ := v
    exact Hc z2 r _ d hd ed hv
  · refine ck_remove h (fun r gs' v hv => ?_)
    obtain ⟨cnt, cc, li, sz, shs, a1, a2, a3, a4, a5, a6⟩ := v
    exact Hr z z2 r gs' _ hv
  · refine ck_code (fun r hr => ?_)
    refine ck_add h hr (fun x gs' v hs hv hx => ?_)
    obtain ⟨cnt, cc, li, sz, shs, a1, a2, a3, a4, a5, a6⟩ := v
    exact Ha z x gs' _ hs hv hx
end
section
/-! part 14: the law behind its first loop -/
section
variable {cnt cc li sz shs : Int32} {a1 a2 a3 a4 a5 a6 : Nat → Int32}
theorem ck_296 {post : Int32 → Prop} {L : Nat} {xs : Nat → Int32} {gs : List Nat} {c : Nat} {G : List Nat} {x3 : Int32} {kc ks : Nat} (hp : post 1) (h : ck_Li gs c G (cnt, cc, li, sz, shs, a1, a2, a3, a4, a5, a6)) :
    ∃ fu, wL_law_296 post L xs (nI c) x3 (nI (ck_R c G)) (nI (ck_R c G)) (nI G.length) (nI G.length) (nI (c ^ ck_O G)) (nI (c ^ 6)) kc ks fu 0 cnt cc li sz shs a1 a2 a3 a4 a5 a6 := by
  obtain ⟨e1, e2, e3, e4, e5, e6, e7, _⟩ := ck_Li_e h
  have hc6 := ck_c6 e1
  have hc3 : c < 4 := by rcases e1 with e | e | e <;> omega
  have hR := ck_R_le c G
  have hO := ck_B6 e1 e2
  refine pk_loop (σ := Unit) (fun n i _ => wL_law_296 post L xs (nI c) x3 (nI (ck_R c G)) (nI (ck_R c G)) (nI G.length) (nI G.length) (nI (c ^ ck_O G)) (nI (c ^ 6)) kc ks n (nI i) cnt cc li sz shs a1 a2 a3 a4 a5 a6) (fun _ _ => True) 20 0 () (by omega) trivial ?_ ?_
  · intro n _ _
    refine pk_le 20 20 (fun _ => ?_) (fun z => absurd z (by omega))
    refine br_t rfl (br_t rfl ?_)
    refine ck_still h ?_
    refine br_t rfl (br_f (nI_nlt hO (by omega)) ?_)
    refine pk_eq c 2 (fun z => ?_) (fun _ => hp)
    subst z
    refine ck_kindsWithAll h ?_
    exact br_t rfl hp
  · intro n i _ hi _ hw
    obtain ⟨j, hj, ej⟩ := pk_andE (x3 + 37 * nI i) (m := 1023) 10 (by decide)
    have hx : j % c ^ 6 < c ^ 6 := Nat.mod_lt _ (by omega)
    obtain ⟨s1, s2, s3⟩ := ck_B11 e1 e2 hx
    have s4 : G.length / G.countP (fun g => ck_act c (j % c ^ 6) g == (j % c ^ 6)) ≤ G.length := Nat.div_le_self _ _
    refine pk_le 20 i (fun z => absurd z (by omega)) (fun _ => ⟨nI_ne0 (by omega) (by omega), ?_⟩)
    rw [ej]
    refine nm_r (pk_rem (by omega) (by omega) (by omega)) ?_
    generalize j % c ^ 6 = x at hx s1 s2 s3 s4 ⊢
    refine ck_size h hx ?_
    refine ck_name h hx (fun m hm => ?_)
    have hmx := hm.2.1
    generalize G.length / G.countP (fun g => ck_act c x g == x) = q at s2 s3 s4 ⊢
    refine br_f (nI_nlt (b := 1) s2 (by omega)) ⟨nI_ne0 (by omega) (by omega), ?_⟩
    rw [pk_rem (by omega) (by omega) (by omega), s3]
    refine br_t rfl (br_f (nI_pos (by omega)) (br_f (nI_nlt hmx (by omega)) ?_))
    refine ck_name h (show m < c ^ 6 by omega) (fun m' hm' => ?_)
    have em : m' = m := ck_B12 e1 e2 hx hm hm'
    rw [em]
    refine br_t rfl ?_
    refine ck_alike h hx (show m < c ^ 6 by omega) (fun a b ha hb => ?_) ?_
    · rw [ck_isN_u ha hm, ck_B12 e1 e2 hx hm hb]
    · exact br_f (by decide) (nm_r (nI_1 i) (hw () trivial))
theorem ck_238 {post : Int32 → Prop} {L : Nat} {xs : Nat → Int32} {gs : List Nat} {c : Nat} {G : List Nat} {x3 : Int32} {kc ks : Nat} (hp : post 1) (h : ck_Li gs c G (cnt, cc, li, sz, shs, a1, a2, a3, a4, a5, a6)) :
    ∃ fu, wL_law_238 post L xs (nI c) x3 (nI (ck_R c G)) (nI (ck_R c G)) (nI G.length) (nI G.length) (nI (ck_O G)) kc ks cnt cc li sz shs a1 a2 a3 a4 a5 a6 fu 1 0 := by
  have e1 := (ck_Li_e h).1
  have hO := ck_O_le G
  refine pk_loop (σ := Nat) (fun n i p => wL_law_238 post L xs (nI c) x3 (nI (ck_R c G)) (nI (ck_R c G)) (nI G.length) (nI G.length) (nI (ck_O G)) kc ks cnt cc li sz shs a1 a2 a3 a4 a5 a6 n (nI p) (nI i)) (fun i p => p = c ^ min i (ck_O G)) 6 0 1 (by omega) (by simp) ?_ ?_
  · intro n p hpw
    rw [show min 6 (ck_O G) = ck_O G by omega] at hpw
    rw [hpw]
    refine pk_le 6 6 (fun _ => ?_) (fun z => absurd z (by omega))
    have fin := ck_296 (L := L) (xs := xs) (x3 := x3) (kc := kc) (ks := ks) hp h
    rcases e1 with e | e | e
    · subst e
      exact br_t rfl fin
    · subst e
      exact br_f (by decide) (br_t rfl fin)
    · subst e
      exact br_f (by decide) (br_f (by decide) fin)
  · intro n i p hi hpw hw
    refine pk_le 6 i (fun z => absurd z (by omega)) (fun _ => pk_le (ck_O G) i (fun z => nm_r (nI_1 i) (hw p ?_)) (fun z => nm_r (pk_mul _ _) (nm_r (nI_1 i) (hw _ ?_))))
    · rw [hpw, show min i (ck_O G) = min (i + 1) (ck_O G) by omega]
    · rw [hpw, show min (i + 1) (ck_O G) = min i (ck_O G) + 1 by omega, Nat.pow_succ]
theorem ck_202 {post : Int32 → Prop} {L : Nat} {xs : Nat → Int32} {gs : List Nat} {c : Nat} {G : List Nat} {x3 : Int32} {kc ks : Nat} (hp : post 1) (h : ck_Li gs c G (cnt, cc, li, sz, shs, a1, a2, a3, a4, a5, a6)) :
    ∃ fu, wL_law_202 post L xs (nI c) x3 (nI (ck_R c G)) (nI (ck_R c G)) (nI G.length) kc ks fu 0 1 cnt cc li sz shs a1 a2 a3 a4 a5 a6 := by
  have e2 := (ck_Li_e h).2.1
  refine pk_loop (σ := Unit) (fun n i _ => wL_law_202 post L xs (nI c) x3 (nI (ck_R c G)) (nI (ck_R c G)) (nI G.length) kc ks n (nI (ck_su (fun k => ck_ls (fun g => if ck_ac (ck_sh g) = k + 1 then 1 else 0) G) i)) (nI (i + 1)) cnt cc li sz shs a1 a2 a3 a4 a5 a6) (fun _ _ => True) 6 0 () (by omega) trivial ?_ ?_
  · intro n _ _
    rw [ck_B7 e2]
    refine pk_le 7 7 (fun _ => ?_) (fun z => absurd z (by omega))
    refine ck_orbits h ?_
    exact ck_238 hp h
  · intro n i _ hi _ hw
    refine pk_le 7 (i + 1) (fun z => absurd z (by omega)) (fun _ => ?_)
    refine ck_withCycles h (by omega) ?_
    exact nm_r (nI_add _ _) (nm_r (nI_1 (i + 1)) (hw () trivial))
end
theorem ck_155 {post : Int32 → Prop} {L : Nat} {xs : Nat → Int32} {J : Int32 → Int32 → Int32 → Int32 → Int32 → Int32 → Int32 → (Nat → Int32) → (Nat → Int32) → (Nat → Int32) → (Nat → Int32) → (Nat → Int32) → (Nat → Int32) → Prop} {gs : List Nat} {c : Nat} {G : List Nat} {x2 x3 x4 : Int32} {b m kc ks : Nat} (hm : m < 7)
    (H : ∀ cnt cc li sz shs a1 a2 a3 a4 a5 a6, ck_Li gs c G (cnt, cc, li, sz, shs, a1, a2, a3, a4, a5, a6) → J (nI (b + ck_su (fun n => ck_Rm c G m n) (7 - m))) (nI (m + 1)) cnt cc li sz shs a1 a2 a3 a4 a5 a6) :
    ∀ d n cnt cc li sz shs a1 a2 a3 a4 a5 a6, n + d = 7 - m → ck_Li gs c G (cnt, cc, li, sz, shs, a1, a2, a3, a4, a5, a6) → wL_law_155 post L xs J x2 x3 x4 (nI m) kc ks (d + 1) (nI (b + ck_su (fun n => ck_Rm c G m n) n)) (nI n) cnt cc li sz shs a1 a2 a3 a4 a5 a6 := by
  intro d
  induction d with
  | zero =>
    intro n cnt cc li sz shs a1 a2 a3 a4 a5 a6 hn h
    have e : n = 7 - m := by omega
    subst e
    unfold wL_law_155
    rw [nI_add]
    exact pk_le 7 (m + (7 - m)) (fun _ => nm_r (nI_1 m) (H _ _ _ _ _ _ _ _ _ _ _ h)) (fun z => absurd z (by omega))
  | succ d ih =>
    intro n cnt cc li sz shs a1 a2 a3 a4 a5 a6 hn h
    unfold wL_law_155
    rw [nI_add]
    refine pk_le 7 (m + n) (fun z => absurd z (by omega)) (fun _ => ?_)
    refine ck_kindsWith h (by omega) (fun v hv => ?_)
    obtain ⟨cnt, cc, li, sz, shs, a1, a2, a3, a4, a5, a6⟩ := v
    exact nm_r (by rw [nI_add, Nat.add_assoc]; rfl) (nm_r (nI_1 n) (ih (n + 1) _ _ _ _ _ _ _ _ _ _ _ (by omega) hv))
theorem ck_145 {post : Int32 → Prop} {L : Nat} {xs : Nat → Int32} {gs : List Nat} {c : Nat} {G : List Nat} {x3 : Int32} {kc ks : Nat} (hp : post 1) :
    ∀ d m cnt cc li sz shs a1 a2 a3 a4 a5 a6, m + d = 7 → ck_Li gs c G (cnt, cc, li, sz, shs, a1, a2, a3, a4, a5, a6) → wL_law_145 post L xs (nI c) x3 (nI (ck_R c G)) kc ks (d + 1) (nI (ck_su (fun m => ck_su (fun n => ck_Rm c G m n) (7 - m)) m)) (nI m) cnt cc li sz shs a1 a2 a3 a4 a5 a6 := by
  intro d
  induction d with
  | zero =>
    intro m cnt cc li sz shs a1 a2 a3 a4 a5 a6 hm h
    have e : m = 7 := by omega
    subst e
    rw [ck_B3]
    refine pk_le 7 7 (fun _ => ?_) (fun z => absurd z (by omega))
    refine ck_order h ?_
    exact ck_202 hp h
  | succ d ih =>
    intro m cnt cc li sz shs a1 a2 a3 a4 a5 a6 hm h
    refine pk_le 7 m (fun z => absurd z (by omega)) (fun _ => ?_)
    exact ⟨7 - m + 1, ck_155 (b := ck_su (fun m => ck_su (fun n => ck_Rm c G m n) (7 - m)) m) (by omega) (fun cnt cc li sz shs a1 a2 a3 a4 a5 a6 hv => ih (m + 1) _ _ _ _ _ _ _ _ _ _ _ (by omega) hv) (7 - m) 0 _ _ _ _ _ _ _ _ _ _ _ (by omega) h⟩
end
section
/-! part 15: the law's first loop, and what is owed -/
section
variable {cnt cc li sz shs : Int32} {a1 a2 a3 a4 a5 a6 : Nat → Int32}
theorem ck_106 {post : Int32 → Prop} {L : Nat} {xs : Nat → Int32} {J : Int32 → Int32 → Int32 → Int32 → Int32 → Int32 → Int32 → (Nat → Int32) → (Nat → Int32) → (Nat → Int32) → (Nat → Int32) → (Nat → Int32) → (Nat → Int32) → Prop} {x2 x3 x6 : Int32} {p o kc ks : Nat}
    (ho : o < 16) (hx : o < 8 → 0 ≤ x6 ∨ x6 = -2) (H : J x2 (nI (p + 2)) cnt cc li sz shs a1 a2 a3 a4 a5 a6) : wL_law_106 post L xs J x2 x3 (nI p) x6 (nI o) kc ks cnt cc li sz shs a1 a2 a3 a4 a5 a6 := by
  have e2 : nI p + 2 = nI (p + 2) := nI_add p 2
  refine pk_le 8 o (fun _ => nm_r e2 H) (fun z => ?_)
  by_cases h0 : 0 ≤ x6
  · exact br_t h0 (nm_r e2 H)
  · rcases hx z with t | t
    · exact absurd t h0
    · exact br_f h0 (br_t t (nm_r e2 H))
end
theorem ck_26 {post : Int32 → Prop} {L : Nat} {xs : Nat → Int32} {x3 : Int32} {kc ks : Nat} (hp : post 1) (hL : L ≤ 260) :
    ∀ k c p gs cnt cc li sz shs a1 a2 a3 a4 a5 a6, p ≤ 262 → L ≤ p + k → ck_Sx gs c (cnt, cc, li, sz, shs, a1, a2, a3, a4, a5, a6) → wL_law_26 post L xs x3 kc ks (k + 1) (nI c) (nI p) cnt cc li sz shs a1 a2 a3 a4 a5 a6 := by
  intro k
  induction k with
  | zero =>
    intro c p gs cnt cc li sz shs a1 a2 a3 a4 a5 a6 hpl hk h
    unfold wL_law_26
    rw [nI_1]
    refine pk_le L (p + 1) (fun _ => ?_) (fun z => absurd z (by omega))
    refine ck_kinds h (fun G v hv => ?_)
    obtain ⟨cnt, cc, li, sz, shs, a1, a2, a3, a4, a5, a6⟩ := v
    exact ⟨8, ck_145 hp 7 0 _ _ _ _ _ _ _ _ _ _ _ (by omega) hv⟩
  | succ k ih =>
    intro c p gs cnt cc li sz shs a1 a2 a3 a4 a5 a6 hpl hk h
    unfold wL_law_26
    rw [nI_1]
    refine pk_le L (p + 1) (fun _ => ?_) (fun z => ?_)
    · refine ck_kinds h (fun G v hv => ?_)
      obtain ⟨cnt, cc, li, sz, shs, a1, a2, a3, a4, a5, a6⟩ := v
      exact ⟨8, ck_145 hp 7 0 _ _ _ _ _ _ _ _ _ _ _ (by omega) hv⟩
    · refine ck_kinds h (fun G v hv => ?_)
      obtain ⟨cnt, cc, li, sz, shs, a1, a2, a3, a4, a5, a6⟩ := v
      have hG : ck_G gs G := hv.2.2.1
      have hc : ck_ok c := hv.1.2.2.1
      have hRl := ck_R_le c G
      have hc6 := ck_c6 hc
      refine ⟨pk_in p L (by omega), pk_in (p + 1) L (by omega), ?_⟩
      obtain ⟨o, ho, eo⟩ := pk_andE (xs (nI p).toNatClampNeg) (m := 15) 4 (by decide)
      refine ck_turn (ck_Li_Sx hv) ho eo (fun z1 x gs' w hs hw hx => ?_) (fun z1 z2 r gs' w hw => ?_) (fun z1 r w d hd ed hw => ?_)
      · obtain ⟨cnt, cc, li, sz, shs, a1, a2, a3, a4, a5, a6⟩ := w
        refine ⟨pk_in p L (by omega), nm_r eo (pk_le o 11 (fun _ => ?_) (fun z => absurd z (by omega)))⟩
        refine pk_le 8 o (fun z => absurd z (by omega)) (fun _ => ?_)
        refine ck_kinds hw (fun G' v' hv' => ?_)
        obtain ⟨cnt, cc, li, sz, shs, a1, a2, a3, a4, a5, a6⟩ := v'
        have hG' : ck_G gs' G' := hv'.2.2.1
        refine br_f (nI_nlt (ck_B8 c hG hG' hs) (by omega)) (ck_106 ho (fun _ => hx) ?_)
        exact ih c (p + 2) gs' _ _ _ _ _ _ _ _ _ _ _ (by omega) (by omega) (ck_Li_Sx hv')
      · obtain ⟨cnt, cc, li, sz, shs, a1, a2, a3, a4, a5, a6⟩ := w
        refine ⟨pk_in p L (by omega), nm_r eo (pk_le o 11 (fun _ => ?_) (fun z => absurd z (by omega)))⟩
        refine pk_le 8 o (fun _ => ?_) (fun z => absurd z (by omega))
        refine ck_106 ho (fun z => absurd z (by omega)) ?_
        exact ih c (p + 2) gs' _ _ _ _ _ _ _ _ _ _ _ (by omega) (by omega) hw
      · obtain ⟨cnt, cc, li, sz, shs, a1, a2, a3, a4, a5, a6⟩ := w
        refine ⟨pk_in p L (by omega), nm_r eo (pk_le o 11 (fun z => absurd z (by omega)) (fun _ => ⟨pk_in (p + 1) L (by omega), by decide, ?_⟩))⟩
        rw [ed]
        refine pk_le 8 o (fun _ => ?_) (fun z => absurd z (by omega))
        refine ck_106 ho (fun z => absurd z (by omega)) ?_
        exact ih d (p + 2) gs _ _ _ _ _ _ _ _ _ _ _ (by omega) (by omega) hw
theorem ck_sx0 : ck_Sx [] 2 (0, 2, 0, 0, 0, (fun _ => 0), (fun _ => 0), (fun _ => 0), (fun _ => 0), (fun _ => 0), (fun _ => 0)) :=
  ⟨⟨by decide, fun g hg => absurd hg (by simp), Or.inr (Or.inl rfl), rfl, rfl, fun k hk => absurd hk (by simp)⟩, Or.inl rfl⟩
theorem i_vc (xs : Nat → Int32) (L : Nat) (hL : L ≤ 260) : wpL_law (fun r => r = 1) L xs := by
  refine ⟨6, 2844, by omega, by omega, by omega, by omega, by omega, by omega, by omega, by omega, by omega, by omega, by omega, by omega, by omega, by omega, ?_⟩
  refine pk_le L 0 (fun z => ?_) (fun z => ⟨pk_in 0 L z, nm_e ?_⟩)
  · exact ⟨262, ck_26 (post := fun r => r = 1) rfl hL 261 2 1 [] _ _ _ _ _ _ _ _ _ _ _ (by omega) (by omega) ck_sx0⟩
  · exact ⟨262, ck_26 (post := fun r => r = 1) rfl hL 261 2 1 [] _ _ _ _ _ _ _ _ _ _ _ (by omega) (by omega) ck_sx0⟩
end
